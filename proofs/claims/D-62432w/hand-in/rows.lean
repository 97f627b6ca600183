section
-- ===== PART A: goes FIRST, ahead of the names: the tables' words, and 'selects' of the private methods out of them =====
/-- a private method of a class that the tables say can be made, by its rows of tables_1 -/
def lw_okq (q : MethodName × Nat) : Prop := (q.1.cls ≠ "java/lang/invoke/MethodHandle" ∧ q.1.cls ≠ "java/lang/invoke/VarHandle") ∧ Cond.instantiable q.1.cls q.2 ∈ tables_1 ∧ Cond.privateMethod q.1 ∈ tables_1 ∧ Cond.instanceMethod q.1 ∈ tables_1
set_option maxRecDepth 100000
theorem lw_p0 : lw_okq (⟨"CellUnion", "isSet", "(I)Z"⟩, 8) := ⟨⟨by decide +kernel, by decide +kernel⟩, List.mem_of_getElem? (i := 4) rfl, List.mem_of_getElem? (i := 43) rfl, List.mem_of_getElem? (i := 44) rfl⟩
theorem lw_p1 : lw_okq (⟨"CellUnion", "numberOf", "(II)I"⟩, 8) := ⟨⟨by decide +kernel, by decide +kernel⟩, List.mem_of_getElem? (i := 4) rfl, List.mem_of_getElem? (i := 47) rfl, List.mem_of_getElem? (i := 48) rfl⟩
theorem lw_p2 : lw_okq (⟨"CellUnion", "make", "(IIII)I"⟩, 8) := ⟨⟨by decide +kernel, by decide +kernel⟩, List.mem_of_getElem? (i := 4) rfl, List.mem_of_getElem? (i := 51) rfl, List.mem_of_getElem? (i := 52) rfl⟩
theorem lw_p3 : lw_okq (⟨"CellUnion", "append", "(II)V"⟩, 8) := ⟨⟨by decide +kernel, by decide +kernel⟩, List.mem_of_getElem? (i := 4) rfl, List.mem_of_getElem? (i := 55) rfl, List.mem_of_getElem? (i := 56) rfl⟩
theorem lw_p4 : lw_okq (⟨"CellUnion", "isCell", "(II)Z"⟩, 8) := ⟨⟨by decide +kernel, by decide +kernel⟩, List.mem_of_getElem? (i := 4) rfl, List.mem_of_getElem? (i := 71) rfl, List.mem_of_getElem? (i := 72) rfl⟩
theorem lw_p5 : lw_okq (⟨"CellUnion", "largestAt", "(II)I"⟩, 8) := ⟨⟨by decide +kernel, by decide +kernel⟩, List.mem_of_getElem? (i := 4) rfl, List.mem_of_getElem? (i := 84) rfl, List.mem_of_getElem? (i := 85) rfl⟩
theorem lw_p6 : lw_okq (⟨"CellUnion", "levelOf", "(I)I"⟩, 8) := ⟨⟨by decide +kernel, by decide +kernel⟩, List.mem_of_getElem? (i := 4) rfl, List.mem_of_getElem? (i := 92) rfl, List.mem_of_getElem? (i := 93) rfl⟩
theorem lw_p7 : lw_okq (⟨"CellUnion", "find", "(I)V"⟩, 8) := ⟨⟨by decide +kernel, by decide +kernel⟩, List.mem_of_getElem? (i := 4) rfl, List.mem_of_getElem? (i := 104) rfl, List.mem_of_getElem? (i := 105) rfl⟩
theorem lw_p8 : lw_okq (⟨"CellUnionModel", "numberOf", "(II)I"⟩, 4) := ⟨⟨by decide +kernel, by decide +kernel⟩, List.mem_of_getElem? (i := 116) rfl, List.mem_of_getElem? (i := 122) rfl, List.mem_of_getElem? (i := 123) rfl⟩
theorem lw_p9 : lw_okq (⟨"CellUnionModel", "isSet", "(I)Z"⟩, 4) := ⟨⟨by decide +kernel, by decide +kernel⟩, List.mem_of_getElem? (i := 116) rfl, List.mem_of_getElem? (i := 145) rfl, List.mem_of_getElem? (i := 146) rfl⟩
theorem lw_p10 : lw_okq (⟨"CellUnionModel", "inSquare", "(IIII)Z"⟩, 4) := ⟨⟨by decide +kernel, by decide +kernel⟩, List.mem_of_getElem? (i := 116) rfl, List.mem_of_getElem? (i := 149) rfl, List.mem_of_getElem? (i := 150) rfl⟩
theorem lw_p11 : lw_okq (⟨"CellUnionModel", "keep", "(I)I"⟩, 4) := ⟨⟨by decide +kernel, by decide +kernel⟩, List.mem_of_getElem? (i := 116) rfl, List.mem_of_getElem? (i := 153) rfl, List.mem_of_getElem? (i := 154) rfl⟩
theorem lw_p12 : lw_okq (⟨"CellUnionModel", "runs", "()I"⟩, 4) := ⟨⟨by decide +kernel, by decide +kernel⟩, List.mem_of_getElem? (i := 116) rfl, List.mem_of_getElem? (i := 157) rfl, List.mem_of_getElem? (i := 158) rfl⟩
theorem lw_p13 : lw_okq (⟨"CellUnionModel", "isCell", "(II)Z"⟩, 4) := ⟨⟨by decide +kernel, by decide +kernel⟩, List.mem_of_getElem? (i := 116) rfl, List.mem_of_getElem? (i := 173) rfl, List.mem_of_getElem? (i := 174) rfl⟩
theorem lw_p14 : lw_okq (⟨"CellUnionModel", "levelAt", "(II)I"⟩, 4) := ⟨⟨by decide +kernel, by decide +kernel⟩, List.mem_of_getElem? (i := 116) rfl, List.mem_of_getElem? (i := 186) rfl, List.mem_of_getElem? (i := 187) rfl⟩
theorem lw_p15 : lw_okq (⟨"CellUnionModel", "whole", "(IIII)Z"⟩, 4) := ⟨⟨by decide +kernel, by decide +kernel⟩, List.mem_of_getElem? (i := 116) rfl, List.mem_of_getElem? (i := 190) rfl, List.mem_of_getElem? (i := 191) rfl⟩
def lw_privs_1 : List (MethodName × Nat) := [(⟨"CellUnion", "isSet", "(I)Z"⟩, 8), (⟨"CellUnion", "numberOf", "(II)I"⟩, 8), (⟨"CellUnion", "make", "(IIII)I"⟩, 8), (⟨"CellUnion", "append", "(II)V"⟩, 8), (⟨"CellUnion", "isCell", "(II)Z"⟩, 8), (⟨"CellUnion", "largestAt", "(II)I"⟩, 8), (⟨"CellUnion", "levelOf", "(I)I"⟩, 8), (⟨"CellUnion", "find", "(I)V"⟩, 8), (⟨"CellUnionModel", "numberOf", "(II)I"⟩, 4), (⟨"CellUnionModel", "isSet", "(I)Z"⟩, 4), (⟨"CellUnionModel", "inSquare", "(IIII)Z"⟩, 4), (⟨"CellUnionModel", "keep", "(I)I"⟩, 4), (⟨"CellUnionModel", "runs", "()I"⟩, 4), (⟨"CellUnionModel", "isCell", "(II)Z"⟩, 4), (⟨"CellUnionModel", "levelAt", "(II)I"⟩, 4), (⟨"CellUnionModel", "whole", "(IIII)Z"⟩, 4)]
theorem lw_r1 : ∀ q ∈ lw_privs_1, lw_okq q := List.forall_mem_cons.mpr ⟨lw_p0, List.forall_mem_cons.mpr ⟨lw_p1, List.forall_mem_cons.mpr ⟨lw_p2, List.forall_mem_cons.mpr ⟨lw_p3, List.forall_mem_cons.mpr ⟨lw_p4, List.forall_mem_cons.mpr ⟨lw_p5, List.forall_mem_cons.mpr ⟨lw_p6, List.forall_mem_cons.mpr ⟨lw_p7, List.forall_mem_cons.mpr ⟨lw_p8, List.forall_mem_cons.mpr ⟨lw_p9, List.forall_mem_cons.mpr ⟨lw_p10, List.forall_mem_cons.mpr ⟨lw_p11, List.forall_mem_cons.mpr ⟨lw_p12, List.forall_mem_cons.mpr ⟨lw_p13, List.forall_mem_cons.mpr ⟨lw_p14, List.forall_mem_cons.mpr ⟨lw_p15, fun _ h => absurd h List.not_mem_nil⟩⟩⟩⟩⟩⟩⟩⟩⟩⟩⟩⟩⟩⟩⟩⟩
theorem lw_p16 : lw_okq (⟨"CellUnionModel", "firstNumber", "(II)I"⟩, 4) := ⟨⟨by decide +kernel, by decide +kernel⟩, List.mem_of_getElem? (i := 116) rfl, List.mem_of_getElem? (i := 194) rfl, List.mem_of_getElem? (i := 195) rfl⟩
theorem lw_p17 : lw_okq (⟨"CellUnionModel", "some", "(IIII)Z"⟩, 4) := ⟨⟨by decide +kernel, by decide +kernel⟩, List.mem_of_getElem? (i := 116) rfl, List.mem_of_getElem? (i := 218) rfl, List.mem_of_getElem? (i := 219) rfl⟩
def lw_privs_2 : List (MethodName × Nat) := [(⟨"CellUnionModel", "firstNumber", "(II)I"⟩, 4), (⟨"CellUnionModel", "some", "(IIII)Z"⟩, 4)]
theorem lw_r2 : ∀ q ∈ lw_privs_2, lw_okq q := List.forall_mem_cons.mpr ⟨lw_p16, List.forall_mem_cons.mpr ⟨lw_p17, fun _ h => absurd h List.not_mem_nil⟩⟩
def lw_privs : List (MethodName × Nat) := lw_privs_1 ++ (lw_privs_2)
def lw_tbl : List Cond := k2_sels lw_privs ++ tables_1
theorem lw_privs_ok : ∀ q ∈ lw_privs, lw_okq q := by
  show ∀ q ∈ lw_privs_1 ++ (lw_privs_2), lw_okq q
  exact List.forall_mem_append.mpr ⟨lw_r1, lw_r2⟩
-- ===== ONE list of words for every method: the tables' words that hold all through a run =====
def lw_all : List Cond := lw_tbl.filter goodWord
/-- a word of the tables by its place: claim/WORDS.tsv -/
theorem lw_w {w : Cond} (i : Nat) (h : lw_tbl[i]? = some w) (g : goodWord w = true) : w ∈ lw_all := List.mem_filter.mpr ⟨List.mem_of_getElem? h, g⟩
theorem lw_all_tbl {w : Cond} (h : w ∈ lw_all) : w ∈ lw_tbl := (List.mem_filter.mp h).1
theorem lw_self : GoodIn lw_all lw_all := fun w h => ⟨h, good_of_word (List.mem_filter.mp h).2⟩
/-- a class's field words, by their places -/
theorem lw_in (ws : List Cond) (ps : List Nat) (hp : ws = ps.filterMap (fun i => lw_tbl[i]?)) (hg : ws.all goodWord = true) : ∀ w ∈ ws, w ∈ lw_all := by
  intro w h
  have h1 := List.all_eq_true.mp hg w h
  rw [hp] at h
  obtain ⟨i, -, hi⟩ := List.mem_filterMap.mp h
  exact lw_w i hi h1
/-- the words of a contract for the method y with code b, L locals, answer r -/
abbrev ws_ (y : MethodName) (b : ByteArray) (L : Nat) (r : Option FieldType) : List Cond := Cond.code y b L r :: lw_all
theorem lw_meth {y : MethodName} {b : ByteArray} {L : Nat} {r : Option FieldType} (h : Cond.code y b L r ∈ lw_all) : GoodIn lw_all (ws_ y b L r) := by
  intro w hw
  rcases List.mem_cons.mp hw with e | e
  · rw [e]
    exact lw_self _ h
  · exact lw_self _ e
theorem lw_app {a c : List Cond} (ha : ∀ w ∈ a, w ∈ lw_all) (hc : GoodIn lw_all c) : GoodIn lw_all (a ++ c) := by
  intro w hw
  rcases List.mem_append.mp hw with e | e
  · exact lw_self w (ha w e)
  · exact hc w e
/-- what a call through an object asks: cwV n hts (lw_V ..) -/
theorem lw_V {own : String} {idx : Nat} {C : String} {y : MethodName} {b : ByteArray} {L : Nat} {r : Option FieldType} (h1 : Cond.methodLink own idx y ∈ lw_all) (h2 : Cond.instanceMethod y ∈ lw_all) (h3 : Cond.selects C y y ∈ lw_all) (h4 : Cond.initialized C ∈ lw_all) (h5 : Cond.code y b L r ∈ lw_all) : GoodIn lw_all (wsV own idx C y (ws_ y b L r)) := by
  refine lw_app ?_ (lw_meth h5)
  intro w hw
  simp only [List.mem_cons, List.not_mem_nil, or_false] at hw
  rcases hw with e | e | e | e
  · rw [e]; exact h1
  · rw [e]; exact h2
  · rw [e]; exact h3
  · rw [e]; exact h4
/-- what a static call asks: va_cwS n hts (lw_S ..) -/
theorem lw_S {own : String} {idx : Nat} {y : MethodName} {b : ByteArray} {L : Nat} {r : Option FieldType} (h1 : Cond.methodLink own idx y ∈ lw_all) (h2 : Cond.static y ∈ lw_all) (h3 : Cond.initialized y.cls ∈ lw_all) (h4 : Cond.code y b L r ∈ lw_all) : GoodIn lw_all (va_wsS own idx y (ws_ y b L r)) := by
  refine lw_app ?_ (lw_meth h4)
  intro w hw
  simp only [List.mem_cons, List.not_mem_nil, or_false] at hw
  rcases hw with e | e | e
  · rw [e]; exact h1
  · rw [e]; exact h2
  · rw [e]; exact h3
/-- the words of a contract for a method WITH HANDLERS (hh: its table) -/
abbrev wsW_ (y : MethodName) (b : ByteArray) (L : Nat) (r : Option FieldType) (hh : List (Nat × Nat × Nat × Nat)) : List Cond := Cond.codeWith y b L r hh :: lw_all
theorem lw_methW {y : MethodName} {b : ByteArray} {L : Nat} {r : Option FieldType} {hh : List (Nat × Nat × Nat × Nat)} (h : Cond.codeWith y b L r hh ∈ lw_all) : GoodIn lw_all (wsW_ y b L r hh) := by
  intro w hw
  rcases List.mem_cons.mp hw with e | e
  · rw [e]
    exact lw_self _ h
  · exact lw_self _ e
/-- any list of words by their places (lw_in), good -/
theorem lw_good {ws : List Cond} (h : ∀ w ∈ ws, w ∈ lw_all) : GoodIn lw_all ws := fun w hw => lw_self w (h w hw)
/-- what a call of a method with handlers asks: vx_cwVW n hts (lw_VW ..), vx_cwSW n hts (lw_SW ..) -/
theorem lw_VW {own : String} {idx : Nat} {C : String} {y : MethodName} {b : ByteArray} {L : Nat} {r : Option FieldType} {hh : List (Nat × Nat × Nat × Nat)} (h1 : Cond.methodLink own idx y ∈ lw_all) (h2 : Cond.instanceMethod y ∈ lw_all) (h3 : Cond.selects C y y ∈ lw_all) (h4 : Cond.initialized C ∈ lw_all) (h5 : Cond.codeWith y b L r hh ∈ lw_all) : GoodIn lw_all (wsV own idx C y (wsW_ y b L r hh)) := by
  refine lw_app ?_ (lw_methW h5)
  intro w hw
  simp only [List.mem_cons, List.not_mem_nil, or_false] at hw
  rcases hw with e | e | e | e
  · rw [e]; exact h1
  · rw [e]; exact h2
  · rw [e]; exact h3
  · rw [e]; exact h4
theorem lw_SW {own : String} {idx : Nat} {y : MethodName} {b : ByteArray} {L : Nat} {r : Option FieldType} {hh : List (Nat × Nat × Nat × Nat)} (h1 : Cond.methodLink own idx y ∈ lw_all) (h2 : Cond.static y ∈ lw_all) (h3 : Cond.initialized y.cls ∈ lw_all) (h4 : Cond.codeWith y b L r hh ∈ lw_all) : GoodIn lw_all (va_wsS own idx y (wsW_ y b L r hh)) := by
  refine lw_app ?_ (lw_methW h4)
  intro w hw
  simp only [List.mem_cons, List.not_mem_nil, or_false] at hw
  rcases hw with e | e | e
  · rw [e]; exact h1
  · rw [e]; exact h2
  · rw [e]; exact h3
/-- a word by its place in its run of the tables -/
theorem lw_at {r : List Cond} (hr : ∀ w ∈ r, w ∈ lw_tbl) {w : Cond} (i : Nat) (h : r[i]? = some w) : w ∈ lw_tbl := hr w (List.mem_of_getElem? h)
theorem lw_g {w : Cond} (h : w ∈ lw_tbl) (g : goodWord w = true) : w ∈ lw_all := List.mem_filter.mpr ⟨h, g⟩
theorem lw_ms : ∀ w ∈ k2_sels lw_privs, w ∈ lw_tbl := fun w h => show w ∈ k2_sels lw_privs ++ tables_1 from List.mem_append_left _ h
theorem lw_m0 : ∀ w ∈ tables_1, w ∈ lw_tbl := fun w h => show w ∈ k2_sels lw_privs ++ tables_1 from List.mem_append_right (k2_sels lw_privs) h
theorem qs0 : (Cond.selects "CellUnion" ⟨"CellUnion", "isSet", "(I)Z"⟩ ⟨"CellUnion", "isSet", "(I)Z"⟩) ∈ lw_all := lw_g (lw_at lw_ms 0 rfl) rfl
theorem qs1 : (Cond.selects "CellUnion" ⟨"CellUnion", "numberOf", "(II)I"⟩ ⟨"CellUnion", "numberOf", "(II)I"⟩) ∈ lw_all := lw_g (lw_at lw_ms 1 rfl) rfl
theorem qs2 : (Cond.selects "CellUnion" ⟨"CellUnion", "make", "(IIII)I"⟩ ⟨"CellUnion", "make", "(IIII)I"⟩) ∈ lw_all := lw_g (lw_at lw_ms 2 rfl) rfl
theorem qs3 : (Cond.selects "CellUnion" ⟨"CellUnion", "append", "(II)V"⟩ ⟨"CellUnion", "append", "(II)V"⟩) ∈ lw_all := lw_g (lw_at lw_ms 3 rfl) rfl
theorem qs4 : (Cond.selects "CellUnion" ⟨"CellUnion", "isCell", "(II)Z"⟩ ⟨"CellUnion", "isCell", "(II)Z"⟩) ∈ lw_all := lw_g (lw_at lw_ms 4 rfl) rfl
theorem qs5 : (Cond.selects "CellUnion" ⟨"CellUnion", "largestAt", "(II)I"⟩ ⟨"CellUnion", "largestAt", "(II)I"⟩) ∈ lw_all := lw_g (lw_at lw_ms 5 rfl) rfl
theorem qs6 : (Cond.selects "CellUnion" ⟨"CellUnion", "levelOf", "(I)I"⟩ ⟨"CellUnion", "levelOf", "(I)I"⟩) ∈ lw_all := lw_g (lw_at lw_ms 6 rfl) rfl
theorem qs7 : (Cond.selects "CellUnion" ⟨"CellUnion", "find", "(I)V"⟩ ⟨"CellUnion", "find", "(I)V"⟩) ∈ lw_all := lw_g (lw_at lw_ms 7 rfl) rfl
theorem qs8 : (Cond.selects "CellUnionModel" ⟨"CellUnionModel", "numberOf", "(II)I"⟩ ⟨"CellUnionModel", "numberOf", "(II)I"⟩) ∈ lw_all := lw_g (lw_at lw_ms 8 rfl) rfl
theorem qs9 : (Cond.selects "CellUnionModel" ⟨"CellUnionModel", "isSet", "(I)Z"⟩ ⟨"CellUnionModel", "isSet", "(I)Z"⟩) ∈ lw_all := lw_g (lw_at lw_ms 9 rfl) rfl
theorem qs10 : (Cond.selects "CellUnionModel" ⟨"CellUnionModel", "inSquare", "(IIII)Z"⟩ ⟨"CellUnionModel", "inSquare", "(IIII)Z"⟩) ∈ lw_all := lw_g (lw_at lw_ms 10 rfl) rfl
theorem qs11 : (Cond.selects "CellUnionModel" ⟨"CellUnionModel", "keep", "(I)I"⟩ ⟨"CellUnionModel", "keep", "(I)I"⟩) ∈ lw_all := lw_g (lw_at lw_ms 11 rfl) rfl
theorem qs12 : (Cond.selects "CellUnionModel" ⟨"CellUnionModel", "runs", "()I"⟩ ⟨"CellUnionModel", "runs", "()I"⟩) ∈ lw_all := lw_g (lw_at lw_ms 12 rfl) rfl
theorem qs13 : (Cond.selects "CellUnionModel" ⟨"CellUnionModel", "isCell", "(II)Z"⟩ ⟨"CellUnionModel", "isCell", "(II)Z"⟩) ∈ lw_all := lw_g (lw_at lw_ms 13 rfl) rfl
theorem qs14 : (Cond.selects "CellUnionModel" ⟨"CellUnionModel", "levelAt", "(II)I"⟩ ⟨"CellUnionModel", "levelAt", "(II)I"⟩) ∈ lw_all := lw_g (lw_at lw_ms 14 rfl) rfl
theorem qs15 : (Cond.selects "CellUnionModel" ⟨"CellUnionModel", "whole", "(IIII)Z"⟩ ⟨"CellUnionModel", "whole", "(IIII)Z"⟩) ∈ lw_all := lw_g (lw_at lw_ms 15 rfl) rfl
theorem qs16 : (Cond.selects "CellUnionModel" ⟨"CellUnionModel", "firstNumber", "(II)I"⟩ ⟨"CellUnionModel", "firstNumber", "(II)I"⟩) ∈ lw_all := lw_g (lw_at lw_ms 16 rfl) rfl
theorem qs17 : (Cond.selects "CellUnionModel" ⟨"CellUnionModel", "some", "(IIII)Z"⟩ ⟨"CellUnionModel", "some", "(IIII)Z"⟩) ∈ lw_all := lw_g (lw_at lw_ms 17 rfl) rfl
end
section
/-! plain facts on numbers and arrays, to paste: each family by itself; over the kit's rows on nI and upd -/
/-! ===== order of ints, in all its forms, and through longs ===== -/
theorem fa_lt (a b : Int32) : a < b ↔ a.toInt < b.toInt := Int32.lt_iff_toInt_lt
theorem fa_le (a b : Int32) : a ≤ b ↔ a.toInt ≤ b.toInt := Int32.le_iff_toInt_le
theorem fa_eq (a b : Int32) : a = b ↔ a.toInt = b.toInt := Int32.toInt_inj.symm
theorem fa_lt64 (a b : Int64) : a < b ↔ a.toInt < b.toInt := Int64.lt_iff_toInt_lt
theorem fa_le64 (a b : Int64) : a ≤ b ↔ a.toInt ≤ b.toInt := Int64.le_iff_toInt_le
theorem fa_eq64 (a b : Int64) : a = b ↔ a.toInt = b.toInt := Int64.toInt_inj.symm
/-- a comparison of two ints taken as longs -/
theorem fa_wide_lt (a b : Int32) : a.toInt64 < b.toInt64 ↔ a < b := by rw [fa_lt64, fa_lt, Int32.toInt_toInt64, Int32.toInt_toInt64]
theorem fa_wide_le (a b : Int32) : a.toInt64 ≤ b.toInt64 ↔ a ≤ b := by rw [fa_le64, fa_le, Int32.toInt_toInt64, Int32.toInt_toInt64]
theorem fa_wide_eq (a b : Int32) : a.toInt64 = b.toInt64 ↔ a = b := by rw [fa_eq64, fa_eq, Int32.toInt_toInt64, Int32.toInt_toInt64]
/-- one strict comparison gives all the others -/
theorem fa_of_lt {a b : Int32} (h : a < b) : a ≤ b ∧ ¬ b ≤ a ∧ ¬ b < a ∧ a ≠ b ∧ b ≠ a := by
  rw [fa_lt] at h
  refine ⟨?_, ?_, ?_, ?_, ?_⟩
  · rw [fa_le]; omega
  · rw [fa_le]; omega
  · rw [fa_lt]; omega
  · intro e; rw [fa_eq] at e; omega
  · intro e; rw [fa_eq] at e; omega
theorem fa_of_nlt {a b : Int32} (h : ¬ a < b) : b ≤ a := by
  rw [fa_lt] at h
  rw [fa_le]
  omega
theorem fa_of_nle {a b : Int32} (h : ¬ a ≤ b) : b < a := by
  rw [fa_le] at h
  rw [fa_lt]
  omega
theorem fa_le_ne {a b : Int32} (h : a ≤ b) (h2 : a ≠ b) : a < b := by
  rw [fa_le] at h
  rw [fa_lt]
  have h3 : a.toInt ≠ b.toInt := fun e => h2 ((fa_eq a b).mpr e)
  omega
theorem fa_three (a b : Int32) : a < b ∨ a = b ∨ b < a := by
  rw [fa_lt, fa_lt, fa_eq]
  omega
theorem fa_trans {a b c : Int32} (h : a < b) (h2 : b ≤ c) : a < c := by
  rw [fa_lt] at *
  rw [fa_le] at h2
  omega
/-! ===== small literals as numbers ===== -/
theorem fa_lit (n : Nat) : (OfNat.ofNat n : Int32) = nI n := rfl
theorem fa_litL (n : Nat) : (OfNat.ofNat n : Int64) = lN n := rfl
/-! ===== bits of a number: 'or', masks, one bit ===== -/
theorem fa_and (a b : Nat) : nI a &&& nI b = nI (a &&& b) := by
  apply Int32.toBitVec_inj.1
  show BitVec.ofNat 32 a &&& BitVec.ofNat 32 b = BitVec.ofNat 32 (a &&& b)
  apply BitVec.eq_of_getLsbD_eq
  intro i hi
  simp [hi]
theorem fa_or (a b : Nat) : nI a ||| nI b = nI (a ||| b) := by
  apply Int32.toBitVec_inj.1
  show BitVec.ofNat 32 a ||| BitVec.ofNat 32 b = BitVec.ofNat 32 (a ||| b)
  apply BitVec.eq_of_getLsbD_eq
  intro i hi
  simp [hi]
/-- a remainder by a power of two, as a mask -/
theorem fa_mask (n k : Nat) : nI n &&& nI (2 ^ k - 1) = nI (n % 2 ^ k) := by rw [fa_and, Nat.and_two_pow_sub_one_eq_mod]
/-- 'or' of a high part and a low one that don't meet is their sum -/
theorem fa_or_sum {a k : Nat} (b : Nat) (h : a < 2 ^ k) : nI (2 ^ k * b) ||| nI a = nI (2 ^ k * b + a) := by rw [fa_or, Nat.two_pow_add_eq_or_of_lt h]
/-- one bit, by 'and' with a power of two -/
theorem fa_bit {n j : Nat} (hj : j < 31) : nI n &&& nI (2 ^ j) = 0 ↔ n.testBit j = false := by
  have h2 : (2 : Nat) ^ j < 2 ^ 31 := Nat.pow_lt_pow_right (by decide) hj
  have hle : n &&& 2 ^ j ≤ 2 ^ j := Nat.and_le_right
  have e : n &&& 2 ^ j = 0 ↔ n.testBit j = false := by
    constructor
    · intro h
      have h1 : (n &&& 2 ^ j).testBit j = false := by rw [h]; simp
      rw [Nat.testBit_and] at h1
      first | simpa using h1 | simpa [Nat.testBit_two_pow_self] using h1 | simpa [Nat.testBit_two_pow] using h1
    · intro h
      apply Nat.eq_of_testBit_eq
      intro i
      rw [Nat.testBit_and]
      by_cases hi : j = i
      · subst hi; simp [h]
      · first | (simp [Nat.testBit_two_pow, hi]; done) | (simp [Nat.testBit_two_pow_of_ne hi]; done)
  rw [fa_and]
  constructor
  · intro h
    apply e.mp
    rcases Nat.eq_zero_or_pos (n &&& 2 ^ j) with z | z
    · exact z
    · exact absurd h (nI_ne0 z (Nat.lt_of_le_of_lt hle h2))
  · intro h
    rw [e.mpr h]; exact nI_0
/-- a remainder by a power of two of a number that isn't negative, as Java divides -/
theorem fa_rem {a k : Nat} (ha : a < 2 ^ 31) (hk : k < 31) : nI a - nI a / nI (2 ^ k) * nI (2 ^ k) = nI (a % 2 ^ k) := pk_rem ha (Nat.two_pow_pos k) (Nat.pow_lt_pow_right (by decide) hk)
/-! ===== cuts to a byte, a short ===== -/
theorem fa_byte_xor (x y : Int32) : (x ^^^ y).toInt8 = x.toInt8 ^^^ y.toInt8 := by
  apply Int8.toBitVec_inj.1
  apply BitVec.eq_of_getLsbD_eq
  intro i hi
  first | (simp [hi]; done) | (simp [hi, BitVec.getLsbD_setWidth, BitVec.getLsbD_signExtend]; done)
theorem fa_short_xor (x y : Int32) : (x ^^^ y).toInt16 = x.toInt16 ^^^ y.toInt16 := by
  apply Int16.toBitVec_inj.1
  apply BitVec.eq_of_getLsbD_eq
  intro i hi
  first | (simp [hi]; done) | (simp [hi, BitVec.getLsbD_setWidth, BitVec.getLsbD_signExtend]; done)
/-- the cut to a byte sees the low byte alone -/
theorem fa_byte_low (x : Int32) : (x &&& 255).toInt8 = x.toInt8 := by
  apply Int8.toBitVec_inj.1
  apply BitVec.eq_of_getLsbD_eq
  intro i hi
  have h2 : (255 : Int32).toBitVec.getLsbD i = true := by
    have : ∀ j : Fin 8, (255 : Int32).toBitVec.getLsbD j.val = true := by decide +kernel
    exact this ⟨i, hi⟩
  have h4 : (x &&& 255).toBitVec.getLsbD i = x.toBitVec.getLsbD i := by
    show (x.toBitVec &&& (255 : Int32).toBitVec).getLsbD i = _
    rw [BitVec.getLsbD_and, h2, Bool.and_true]
  have h3 : i < 32 := by omega
  first
    | (show (((x &&& 255).toBitVec).signExtend 8).getLsbD i = (x.toBitVec.signExtend 8).getLsbD i; rw [BitVec.getLsbD_signExtend, BitVec.getLsbD_signExtend, if_pos h3, if_pos h3, h4])
    | (show (((x &&& 255).toBitVec).setWidth 8).getLsbD i = (x.toBitVec.setWidth 8).getLsbD i; rw [BitVec.getLsbD_setWidth, BitVec.getLsbD_setWidth, h4])
    | (simp [hi, h3, h4]; done)
theorem fa_short_low (x : Int32) : (x &&& 65535).toInt16 = x.toInt16 := by
  apply Int16.toBitVec_inj.1
  apply BitVec.eq_of_getLsbD_eq
  intro i hi
  have h2 : (65535 : Int32).toBitVec.getLsbD i = true := by
    have : ∀ j : Fin 16, (65535 : Int32).toBitVec.getLsbD j.val = true := by decide +kernel
    exact this ⟨i, hi⟩
  have h4 : (x &&& 65535).toBitVec.getLsbD i = x.toBitVec.getLsbD i := by
    show (x.toBitVec &&& (65535 : Int32).toBitVec).getLsbD i = _
    rw [BitVec.getLsbD_and, h2, Bool.and_true]
  have h3 : i < 32 := by omega
  first
    | (show (((x &&& 65535).toBitVec).signExtend 16).getLsbD i = (x.toBitVec.signExtend 16).getLsbD i; rw [BitVec.getLsbD_signExtend, BitVec.getLsbD_signExtend, if_pos h3, if_pos h3, h4])
    | (show (((x &&& 65535).toBitVec).setWidth 16).getLsbD i = (x.toBitVec.setWidth 16).getLsbD i; rw [BitVec.getLsbD_setWidth, BitVec.getLsbD_setWidth, h4])
    | (simp [hi, h3, h4]; done)
/-- a small number is its own byte, its own short -/
theorem fa_byte_small {n : Nat} (h : n < 128) : (nI n).toInt8.toInt32 = nI n := by
  have : ∀ j : Fin 128, (nI j.val).toInt8.toInt32 = nI j.val := by decide +kernel
  exact this ⟨n, h⟩
/-! ===== absolute difference ===== -/
theorem fa_absdiff {a b : Nat} (ha : a < 2 ^ 31) (hb : b < 2 ^ 31) : (if nI a < nI b then nI b - nI a else nI a - nI b) = nI (if a < b then b - a else a - b) := by
  by_cases h : a < b
  · rw [if_pos (nI_lt h hb), if_pos h]
    exact pk_sub (Nat.le_of_lt h)
  · rw [if_neg (nI_nlt (Nat.le_of_not_lt h) ha), if_neg h]
    exact pk_sub (Nat.le_of_not_lt h)
/-! ===== an array behind i stores, a conditional store, a row copied ===== -/
/-- f where k < i, what stood there else -/
def fa_fill {α : Type} (f g : Nat → α) (i : Nat) : Nat → α := fun k => if k < i then f k else g k
theorem fa_fill_0 {α : Type} (f g : Nat → α) : fa_fill f g 0 = g := funext fun k => if_neg (Nat.not_lt_zero k)
theorem fa_fill_in {α : Type} {f g : Nat → α} {i k : Nat} (h : k < i) : fa_fill f g i k = f k := if_pos h
theorem fa_fill_out {α : Type} {f g : Nat → α} {i k : Nat} (h : i ≤ k) : fa_fill f g i k = g k := if_neg (Nat.not_lt.mpr h)
theorem fa_fill_succ (f g : Nat → Int32) (i : Nat) : upd (fa_fill f g i) i (f i) = fa_fill f g (i + 1) := by
  funext k
  by_cases e : k = i
  · subst e
    rw [pk_us]
    exact (if_pos (Nat.lt_succ_self k)).symm
  · rw [pk_un e]
    by_cases h : k < i
    · rw [fa_fill_in h, fa_fill_in (Nat.lt_succ_of_lt h)]
    · rw [fa_fill_out (Nat.le_of_not_lt h), fa_fill_out (by omega)]
/-- a store that changes nothing -/
theorem fa_upd_same {f : Nat → Int32} {i : Nat} {x : Int32} (h : f i = x) : upd f i x = f := by
  funext k
  by_cases e : k = i
  · subst e
    rw [pk_us, h]
  · rw [pk_un e]
/-- a store under a condition, told as one -/
theorem fa_upd_if (c : Prop) [Decidable c] (f : Nat → Int32) (i : Nat) (x : Int32) : (if c then upd f i x else f) = upd f i (if c then x else f i) := by
  by_cases h : c
  · rw [if_pos h, if_pos h]
  · rw [if_neg h, if_neg h, fa_upd_same rfl]
/-- two stores at one place, at two -/
theorem fa_upd_twice (f : Nat → Int32) (i : Nat) (x y : Int32) : upd (upd f i x) i y = upd f i y := by
  funext k
  by_cases e : k = i
  · subst e
    rw [pk_us, pk_us]
  · rw [pk_un e, pk_un e, pk_un e]
theorem fa_upd_swap (f : Nat → Int32) {i j : Nat} (h : i ≠ j) (x y : Int32) : upd (upd f i x) j y = upd (upd f j y) i x := by
  funext k
  by_cases e : k = i
  · subst e
    rw [pk_un h, pk_us, pk_us]
  · by_cases e2 : k = j
    · subst e2
      rw [pk_us, pk_un e, pk_us]
    · rw [pk_un e2, pk_un e, pk_un e, pk_un e2]
/-! ===== the first index with a property; a count ===== -/
/-- the first k < n with p k, n if there is none -/
def fa_first (p : Nat → Bool) : Nat → Nat
  | 0 => 0
  | n + 1 => if fa_first p n < n then fa_first p n else if p n then n else n + 1
theorem fa_first_le (p : Nat → Bool) : ∀ n, fa_first p n ≤ n
  | 0 => Nat.le_refl 0
  | n + 1 => by
    have ih := fa_first_le p n
    unfold fa_first
    split
    · omega
    · split
      · omega
      · omega
theorem fa_first_no (p : Nat → Bool) : ∀ n k, k < fa_first p n → p k = false
  | 0, k, h => absurd h (Nat.not_lt_zero k)
  | n + 1, k, h => by
    have ih := fa_first_no p n
    have hl := fa_first_le p n
    unfold fa_first at h
    split at h
    · exact ih k h
    · rename_i h1
      split at h
      · exact ih k (by omega)
      · rename_i h2
        by_cases e : k = n
        · subst e
          exact Bool.eq_false_iff.mpr h2
        · exact ih k (by omega)
theorem fa_first_yes (p : Nat → Bool) : ∀ n, fa_first p n < n → p (fa_first p n) = true
  | 0, h => absurd h (Nat.not_lt_zero _)
  | n + 1, h => by
    have ih := fa_first_yes p n
    have hl := fa_first_le p n
    unfold fa_first at h ⊢
    split at h
    · rename_i h1
      rw [if_pos h1]
      exact ih h1
    · rename_i h1
      rw [if_neg h1]
      split at h
      · rename_i h2
        rw [if_pos h2]
        exact h2
      · omega
/-- how many k < n have p k -/
def fa_cnt (p : Nat → Bool) : Nat → Nat
  | 0 => 0
  | n + 1 => fa_cnt p n + if p n then 1 else 0
theorem fa_cnt_le (p : Nat → Bool) : ∀ n, fa_cnt p n ≤ n
  | 0 => Nat.le_refl 0
  | n + 1 => by
    have ih := fa_cnt_le p n
    unfold fa_cnt
    split
    · omega
    · omega
theorem fa_cnt_yes {p : Nat → Bool} {n : Nat} (h : p n = true) : fa_cnt p (n + 1) = fa_cnt p n + 1 := by rw [fa_cnt, if_pos h]
theorem fa_cnt_no {p : Nat → Bool} {n : Nat} (h : p n = false) : fa_cnt p (n + 1) = fa_cnt p n := by rw [fa_cnt, if_neg (by rw [h]; decide)]; rfl
theorem fa_cnt_cong {p q : Nat → Bool} : ∀ {n : Nat}, (∀ k, k < n → p k = q k) → fa_cnt p n = fa_cnt q n
  | 0, _ => rfl
  | n + 1, h => by rw [fa_cnt, fa_cnt, fa_cnt_cong (fun k hk => h k (Nat.lt_succ_of_lt hk)), h n (Nat.lt_succ_self n)]
/-! ===== an answer carried into a post; a branch on a boolean answer ===== -/
theorem fa_post {α : Type} {P : α → Prop} {x y : α} (h : x = y) (hp : P y) : P x := h ▸ hp
theorem fa_post2 {α β : Type} {P : α → β → Prop} {x y : α} {u v : β} (h : x = y) (h2 : u = v) (hp : P y v) : P x u := h ▸ h2 ▸ hp
theorem fa_bool {r : Int32} {b : Bool} (h : r = if b then 1 else 0) : (r = 0 ↔ b = false) ∧ (¬ r = 0 ↔ b = true) := by
  subst h
  cases b
  · exact ⟨⟨fun _ => rfl, fun _ => rfl⟩, ⟨fun h => absurd rfl h, fun h => absurd h (by decide)⟩⟩
  · exact ⟨⟨fun h => absurd h (by decide), fun h => absurd h (by decide)⟩, ⟨fun _ => rfl, fun _ => by decide⟩⟩
/-- a boolean's narrowing changes nothing -/
theorem fa_bool_and {r : Int32} (h : r = 0 ∨ r = 1) : r &&& 1 = r := by
  rcases h with rfl | rfl
  · decide
  · decide
theorem fa_bool_prop {c : Prop} [Decidable c] {r : Int32} (h : r = if c then 1 else 0) : (r = 0 ↔ ¬ c) ∧ (¬ r = 0 ↔ c) := by
  subst h
  by_cases hc : c
  · rw [if_pos hc]
    exact ⟨⟨fun h => absurd h (by decide), fun h => absurd hc h⟩, ⟨fun _ => hc, fun _ => by decide⟩⟩
  · rw [if_neg hc]
    exact ⟨⟨fun _ => hc, fun _ => rfl⟩, ⟨fun h => absurd rfl h, fun h => absurd h hc⟩⟩
/-! plain facts to paste, each family by itself; over the kit's nI, lN and upd -/
/-! ===== drawers: more things than places ===== -/
theorem fb_holes : ∀ (m n : Nat) (f : Nat → Nat), (∀ i, i < n → f i < m) → (∀ i j, i < j → j < n → f i ≠ f j) → n ≤ m := by
  intro m
  induction m with
  | zero =>
    intro n f h1 _
    rcases Nat.eq_zero_or_pos n with h | h
    · omega
    · exact absurd (h1 0 h) (Nat.not_lt_zero _)
  | succ m ih =>
    intro n f h1 h2
    by_cases hx : ∃ i, i < n ∧ f i = m
    · obtain ⟨a, ha, hfa⟩ := hx
      have hg := ih (n - 1) (fun i => if i < a then f i else f (i + 1)) (by
        intro i hi
        by_cases q : i < a
        · simp only [if_pos q]
          have b1 := h1 i (by omega)
          have b2 := h2 i a q ha
          omega
        · simp only [if_neg q]
          have b1 := h1 (i + 1) (by omega)
          have b2 := h2 a (i + 1) (by omega) (by omega)
          omega) (by
        intro i j hij hj
        by_cases q : i < a
        · by_cases r : j < a
          · simp only [if_pos q, if_pos r]
            exact h2 i j hij (by omega)
          · simp only [if_pos q, if_neg r]
            exact h2 i (j + 1) (by omega) (by omega)
        · have r : ¬ j < a := by omega
          simp only [if_neg q, if_neg r]
          exact h2 (i + 1) (j + 1) (by omega) (by omega))
      omega
    · have hg := ih n f (fun i hi => by
        have b1 := h1 i hi
        have b2 : f i ≠ m := fun e => hx ⟨i, hi, e⟩
        omega) h2
      omega
/-- two of them in one place -/
theorem fb_twice {m n : Nat} {f : Nat → Nat} (h : ∀ i, i < n → f i < m) (hm : m < n) : ∃ i j, i < j ∧ j < n ∧ f i = f j := by
  refine Classical.byContradiction fun hx => ?_
  have := fb_holes m n f h (fun i j hij hj e => hx ⟨i, j, hij, hj, e⟩)
  omega
/-- as many as places, none twice: each place is taken -/
theorem fb_onto {n : Nat} {f : Nat → Nat} (h : ∀ i, i < n → f i < n) (h2 : ∀ i j, i < j → j < n → f i ≠ f j) {y : Nat} (hy : y < n) : ∃ i, i < n ∧ f i = y := by
  refine Classical.byContradiction fun hx => ?_
  have hne : ∀ i, i < n → f i ≠ y := fun i hi e => hx ⟨i, hi, e⟩
  have := fb_holes (n - 1) n (fun i => if f i < y then f i else f i - 1) (by
    intro i hi
    have b1 := h i hi
    have b2 := hne i hi
    by_cases q : f i < y
    · simp only [if_pos q]; omega
    · simp only [if_neg q]; omega) (by
    intro i j hij hj
    have b1 := hne i (by omega)
    have b2 := hne j hj
    have b3 := h2 i j hij hj
    by_cases q : f i < y
    · by_cases r : f j < y
      · simp only [if_pos q, if_pos r]; exact b3
      · simp only [if_pos q, if_neg r]; omega
    · by_cases r : f j < y
      · simp only [if_neg q, if_pos r]; omega
      · simp only [if_neg q, if_neg r]; omega)
  omega
/-! ===== how many places have a property ===== -/
def fb_ct (p : Nat → Bool) : Nat → Nat
  | 0 => 0
  | n + 1 => fb_ct p n + (if p n then 1 else 0)
theorem fb_ct_succ (p : Nat → Bool) (n : Nat) : fb_ct p (n + 1) = fb_ct p n + (if p n then 1 else 0) := rfl
theorem fb_ct_le (p : Nat → Bool) : ∀ n, fb_ct p n ≤ n
  | 0 => Nat.le_refl _
  | n + 1 => by
    have h := fb_ct_le p n
    rw [fb_ct_succ]
    split <;> omega
theorem fb_ct_step (p : Nat → Bool) (m : Nat) : ∀ n, fb_ct p m ≤ fb_ct p (m + n)
  | 0 => Nat.le_refl _
  | n + 1 => by
    have h := fb_ct_step p m n
    show fb_ct p m ≤ fb_ct p (m + n + 1)
    rw [fb_ct_succ]
    omega
theorem fb_ct_mono (p : Nat → Bool) {m n : Nat} (h : m ≤ n) : fb_ct p m ≤ fb_ct p n := by
  have := fb_ct_step p m (n - m)
  rwa [Nat.add_sub_cancel' h] at this
theorem fb_ct_cong {p q : Nat → Bool} : ∀ {n : Nat}, (∀ k, k < n → p k = q k) → fb_ct p n = fb_ct q n
  | 0, _ => rfl
  | n + 1, h => by
    rw [fb_ct_succ, fb_ct_succ, fb_ct_cong (fun k hk => h k (by omega)), h n (by omega)]
/-- one place changed -/
theorem fb_ct_out (p : Nat → Bool) (b : Bool) {i n : Nat} (h : n ≤ i) : fb_ct (fun k => if k = i then b else p k) n = fb_ct p n :=
  fb_ct_cong fun k hk => if_neg (by omega)
theorem fb_ct_upd (p : Nat → Bool) (b : Bool) {i : Nat} : ∀ {n : Nat}, i < n → fb_ct (fun k => if k = i then b else p k) n + (if p i then 1 else 0) = fb_ct p n + (if b then 1 else 0)
  | 0, h => absurd h (Nat.not_lt_zero i)
  | n + 1, h => by
    rw [fb_ct_succ, fb_ct_succ]
    rcases Nat.lt_or_ge i n with q | q
    · have := fb_ct_upd p b q
      have e : (if n = i then b else p n) = p n := if_neg (by omega)
      rw [e]
      omega
    · have e : i = n := by omega
      subst e
      rw [fb_ct_out p b (Nat.le_refl _)]
      simp only [if_true]
      omega
theorem fb_ct_sub {p q : Nat → Bool} : ∀ {n : Nat}, (∀ k, k < n → p k = true → q k = true) → fb_ct p n ≤ fb_ct q n
  | 0, _ => Nat.le_refl _
  | n + 1, h => by
    have h1 := fb_ct_sub (n := n) (p := p) (q := q) (fun k hk => h k (by omega))
    have h2 := h n (by omega)
    rw [fb_ct_succ, fb_ct_succ]
    cases hp : p n <;> cases hq : q n <;> simp_all <;> omega
theorem fb_ct_or {p q : Nat → Bool} : ∀ {n : Nat}, (∀ k, k < n → ¬ (p k = true ∧ q k = true)) → fb_ct (fun k => p k || q k) n = fb_ct p n + fb_ct q n
  | 0, _ => rfl
  | n + 1, h => by
    have h1 := fb_ct_or (n := n) (p := p) (q := q) (fun k hk => h k (by omega))
    have h2 := h n (by omega)
    rw [fb_ct_succ, fb_ct_succ, fb_ct_succ, h1]
    cases hp : p n <;> cases hq : q n <;> simp_all <;> omega
theorem fb_ct_not (p : Nat → Bool) : ∀ n, fb_ct p n + fb_ct (fun k => !p k) n = n
  | 0 => rfl
  | n + 1 => by
    have h := fb_ct_not p n
    rw [fb_ct_succ, fb_ct_succ]
    cases p n <;> simp <;> omega
theorem fb_ct_split (p : Nat → Bool) (m : Nat) : ∀ n, fb_ct p (m + n) = fb_ct p m + fb_ct (fun k => p (m + k)) n
  | 0 => rfl
  | n + 1 => by
    have h := fb_ct_split p m n
    show fb_ct p (m + n + 1) = _
    rw [fb_ct_succ, fb_ct_succ, h, Nat.add_assoc]
theorem fb_ct_zero {p : Nat → Bool} : ∀ {n : Nat}, fb_ct p n = 0 ↔ ∀ k, k < n → p k = false
  | 0 => ⟨fun _ k hk => absurd hk (Nat.not_lt_zero k), fun _ => rfl⟩
  | n + 1 => by
    have h := fb_ct_zero (p := p) (n := n)
    rw [fb_ct_succ]
    constructor
    · intro e k hk
      have e1 : fb_ct p n = 0 := by omega
      rcases Nat.lt_or_ge k n with q | q
      · exact h.mp e1 k q
      · have ek : k = n := by omega
        subst ek
        cases hp : p k
        · rfl
        · simp [hp] at e
    · intro a
      rw [h.mpr (fun k hk => a k (by omega)), a n (by omega)]
      rfl
theorem fb_ct_pos {p : Nat → Bool} {n : Nat} : 0 < fb_ct p n ↔ ∃ k, k < n ∧ p k = true := by
  constructor
  · intro h
    refine Classical.byContradiction fun hx => ?_
    have := fb_ct_zero.mpr (fun k hk => by
      cases hp : p k
      · rfl
      · exact absurd ⟨k, hk, hp⟩ hx : ∀ k, k < n → p k = false)
    omega
  · rintro ⟨k, hk, hp⟩
    rcases Nat.eq_zero_or_pos (fb_ct p n) with e | e
    · have := fb_ct_zero.mp e k hk
      rw [this] at hp
      cases hp
    · exact e
theorem fb_ct_all {p : Nat → Bool} {n : Nat} : fb_ct p n = n ↔ ∀ k, k < n → p k = true := by
  have h := fb_ct_not p n
  constructor
  · intro e k hk
    have z : fb_ct (fun k => !p k) n = 0 := by omega
    have := fb_ct_zero.mp z k hk
    cases hp : p k
    · simp [hp] at this
    · rfl
  · intro a
    have z : fb_ct (fun k => !p k) n = 0 := fb_ct_zero.mpr (fun k hk => by simp [a k hk])
    omega
/-- the k-th place with the property -/
theorem fb_ct_kth {p : Nat → Bool} {k : Nat} : ∀ {n : Nat}, k < fb_ct p n → ∃ i, i < n ∧ p i = true ∧ fb_ct p i = k
  | 0, h => absurd h (Nat.not_lt_zero k)
  | n + 1, h => by
    rcases Nat.lt_or_ge k (fb_ct p n) with q | q
    · obtain ⟨i, h1, h2⟩ := fb_ct_kth q
      exact ⟨i, by omega, h2⟩
    · rw [fb_ct_succ] at h
      cases hp : p n
      · simp [hp] at h; omega
      · simp [hp] at h
        exact ⟨n, by omega, hp, by omega⟩
theorem fb_ct_kth_one {p : Nat → Bool} {i j : Nat} (hi : p i = true) (hj : p j = true) (e : fb_ct p i = fb_ct p j) : i = j := by
  have key : ∀ a b : Nat, a < b → p a = true → fb_ct p a < fb_ct p b := by
    intro a b hab ha
    have h := fb_ct_mono p (show a + 1 ≤ b from hab)
    rw [fb_ct_succ, ha] at h
    simp at h
    omega
  rcases Nat.lt_trichotomy i j with q | q | q
  · have := key i j q hi; omega
  · exact q
  · have := key j i q hj; omega
/-! ===== sums over a range: one place changed, parts, bounds ===== -/
def fb_sm (f : Nat → Nat) : Nat → Nat
  | 0 => 0
  | n + 1 => fb_sm f n + f n
theorem fb_sm_succ (f : Nat → Nat) (n : Nat) : fb_sm f (n + 1) = fb_sm f n + f n := rfl
theorem fb_sm_cong {f g : Nat → Nat} : ∀ {n : Nat}, (∀ k, k < n → f k = g k) → fb_sm f n = fb_sm g n
  | 0, _ => rfl
  | n + 1, h => by rw [fb_sm_succ, fb_sm_succ, fb_sm_cong (fun k hk => h k (by omega)), h n (by omega)]
theorem fb_sm_out (f : Nat → Nat) (v : Nat) {i n : Nat} (h : n ≤ i) : fb_sm (fun k => if k = i then v else f k) n = fb_sm f n :=
  fb_sm_cong fun k hk => if_neg (by omega)
theorem fb_sm_upd (f : Nat → Nat) (v : Nat) {i : Nat} : ∀ {n : Nat}, i < n → fb_sm (fun k => if k = i then v else f k) n + f i = fb_sm f n + v
  | 0, h => absurd h (Nat.not_lt_zero i)
  | n + 1, h => by
    rw [fb_sm_succ, fb_sm_succ]
    rcases Nat.lt_or_ge i n with q | q
    · have := fb_sm_upd f v q
      have e : (if n = i then v else f n) = f n := if_neg (by omega)
      rw [e]
      omega
    · have e : i = n := by omega
      subst e
      rw [fb_sm_out f v (Nat.le_refl _)]
      simp only [if_true]
      omega
theorem fb_sm_add (f g : Nat → Nat) : ∀ n, fb_sm (fun k => f k + g k) n = fb_sm f n + fb_sm g n
  | 0 => rfl
  | n + 1 => by
    have h := fb_sm_add f g n
    rw [fb_sm_succ, fb_sm_succ, fb_sm_succ, h]
    omega
theorem fb_sm_le {f g : Nat → Nat} : ∀ {n : Nat}, (∀ k, k < n → f k ≤ g k) → fb_sm f n ≤ fb_sm g n
  | 0, _ => Nat.le_refl _
  | n + 1, h => by
    have h1 := fb_sm_le (n := n) (f := f) (g := g) (fun k hk => h k (by omega))
    have h2 := h n (by omega)
    rw [fb_sm_succ, fb_sm_succ]
    omega
theorem fb_sm_const (c : Nat) : ∀ n, fb_sm (fun _ => c) n = n * c
  | 0 => by rw [Nat.zero_mul]; rfl
  | n + 1 => by rw [fb_sm_succ, fb_sm_const c n, Nat.succ_mul]
theorem fb_sm_bound {f : Nat → Nat} {c n : Nat} (h : ∀ k, k < n → f k ≤ c) : fb_sm f n ≤ n * c := by
  rw [← fb_sm_const c n]
  exact fb_sm_le h
theorem fb_sm_mono (f : Nat → Nat) (m : Nat) : ∀ n, fb_sm f m ≤ fb_sm f (m + n)
  | 0 => Nat.le_refl _
  | n + 1 => by
    have h := fb_sm_mono f m n
    show fb_sm f m ≤ fb_sm f (m + n + 1)
    rw [fb_sm_succ]
    omega
theorem fb_sm_part (f : Nat → Nat) {i n : Nat} (h : i < n) : fb_sm f i + f i ≤ fb_sm f n := by
  have := fb_sm_mono f (i + 1) (n - (i + 1))
  rw [fb_sm_succ, show i + 1 + (n - (i + 1)) = n by omega] at this
  exact this
theorem fb_sm_split (f : Nat → Nat) (m : Nat) : ∀ n, fb_sm f (m + n) = fb_sm f m + fb_sm (fun k => f (m + k)) n
  | 0 => rfl
  | n + 1 => by
    have h := fb_sm_split f m n
    show fb_sm f (m + n + 1) = _
    rw [fb_sm_succ, fb_sm_succ, h, Nat.add_assoc]
theorem fb_sm_zero {f : Nat → Nat} {n : Nat} (h : fb_sm f n = 0) : ∀ k, k < n → f k = 0 := fun k hk => by
  have := fb_sm_part f hk
  omega
/-- the same over whole numbers -/
def fb_si (f : Nat → Int) : Nat → Int
  | 0 => 0
  | n + 1 => fb_si f n + f n
theorem fb_si_succ (f : Nat → Int) (n : Nat) : fb_si f (n + 1) = fb_si f n + f n := rfl
theorem fb_si_cong {f g : Nat → Int} : ∀ {n : Nat}, (∀ k, k < n → f k = g k) → fb_si f n = fb_si g n
  | 0, _ => rfl
  | n + 1, h => by rw [fb_si_succ, fb_si_succ, fb_si_cong (fun k hk => h k (by omega)), h n (by omega)]
theorem fb_si_out (f : Nat → Int) (v : Int) {i n : Nat} (h : n ≤ i) : fb_si (fun k => if k = i then v else f k) n = fb_si f n :=
  fb_si_cong fun k hk => if_neg (by omega)
theorem fb_si_upd (f : Nat → Int) (v : Int) {i : Nat} : ∀ {n : Nat}, i < n → fb_si (fun k => if k = i then v else f k) n = fb_si f n - f i + v
  | 0, h => absurd h (Nat.not_lt_zero i)
  | n + 1, h => by
    rw [fb_si_succ, fb_si_succ]
    rcases Nat.lt_or_ge i n with q | q
    · have := fb_si_upd f v q
      have e : (if n = i then v else f n) = f n := if_neg (by omega)
      rw [e]
      omega
    · have e : i = n := by omega
      subst e
      rw [fb_si_out f v (Nat.le_refl _)]
      simp only [if_true]
      omega
theorem fb_si_add (f g : Nat → Int) : ∀ n, fb_si (fun k => f k + g k) n = fb_si f n + fb_si g n
  | 0 => rfl
  | n + 1 => by
    have h := fb_si_add f g n
    rw [fb_si_succ, fb_si_succ, fb_si_succ, h]
    omega
theorem fb_si_sub (f g : Nat → Int) : ∀ n, fb_si (fun k => f k - g k) n = fb_si f n - fb_si g n
  | 0 => rfl
  | n + 1 => by
    have h := fb_si_sub f g n
    rw [fb_si_succ, fb_si_succ, fb_si_succ, h]
    omega
theorem fb_si_mul (c : Int) (f : Nat → Int) : ∀ n, fb_si (fun k => c * f k) n = c * fb_si f n
  | 0 => (Int.mul_zero c).symm
  | n + 1 => by
    have h := fb_si_mul c f n
    rw [fb_si_succ, fb_si_succ, h, Int.mul_add]
theorem fb_si_split (f : Nat → Int) (m : Nat) : ∀ n, fb_si f (m + n) = fb_si f m + fb_si (fun k => f (m + k)) n
  | 0 => (Int.add_zero _).symm
  | n + 1 => by
    have h := fb_si_split f m n
    show fb_si f (m + n + 1) = _
    rw [fb_si_succ, fb_si_succ, h, Int.add_assoc]
theorem fb_si_nat (f : Nat → Nat) : ∀ n, fb_si (fun k => (f k : Int)) n = (fb_sm f n : Int)
  | 0 => rfl
  | n + 1 => by
    have h := fb_si_nat f n
    rw [fb_si_succ, fb_sm_succ, h]
    omega
theorem fb_si_bound {f : Nat → Int} {c : Int} (hc : 0 ≤ c) : ∀ {n : Nat}, (∀ k, k < n → -c ≤ f k ∧ f k ≤ c) → -(n * c) ≤ fb_si f n ∧ fb_si f n ≤ n * c
  | 0, _ => by simp [fb_si]
  | n + 1, h => by
    have h1 := fb_si_bound (n := n) (f := f) hc (fun k hk => h k (by omega))
    have h2 := h n (by omega)
    have e : ((n + 1 : Nat) : Int) * c = n * c + c := by rw [Int.natCast_add, Int.add_mul]; simp
    rw [fb_si_succ, e]
    omega
/-! ===== bits of a long that isn't negative ===== -/
theorem fb_andL (a b : Nat) : lN a &&& lN b = lN (a &&& b) := by
  apply Int64.toBitVec_inj.1
  show BitVec.ofNat 64 a &&& BitVec.ofNat 64 b = BitVec.ofNat 64 (a &&& b)
  apply BitVec.eq_of_getLsbD_eq
  intro i hi
  simp [hi]
theorem fb_orL (a b : Nat) : lN a ||| lN b = lN (a ||| b) := by
  apply Int64.toBitVec_inj.1
  show BitVec.ofNat 64 a ||| BitVec.ofNat 64 b = BitVec.ofNat 64 (a ||| b)
  apply BitVec.eq_of_getLsbD_eq
  intro i hi
  simp [hi]
theorem fb_xorL (a b : Nat) : lN a ^^^ lN b = lN (a ^^^ b) := by
  apply Int64.toBitVec_inj.1
  show BitVec.ofNat 64 a ^^^ BitVec.ofNat 64 b = BitVec.ofNat 64 (a ^^^ b)
  apply BitVec.eq_of_getLsbD_eq
  intro i hi
  simp [hi]
theorem fb_xorI (a b : Nat) : nI a ^^^ nI b = nI (a ^^^ b) := by
  apply Int32.toBitVec_inj.1
  show BitVec.ofNat 32 a ^^^ BitVec.ofNat 32 b = BitVec.ofNat 32 (a ^^^ b)
  apply BitVec.eq_of_getLsbD_eq
  intro i hi
  simp [hi]
theorem fb_maskL (n k : Nat) : lN n &&& lN (2 ^ k - 1) = lN (n % 2 ^ k) := by rw [fb_andL, Nat.and_two_pow_sub_one_eq_mod]
theorem fb_or_sumL {a k : Nat} (b : Nat) (h : a < 2 ^ k) : lN (2 ^ k * b) ||| lN a = lN (2 ^ k * b + a) := by rw [fb_orL, Nat.two_pow_add_eq_or_of_lt h]
theorem fb_lN_inj {a b : Nat} (ha : a < 2 ^ 63) (hb : b < 2 ^ 63) : lN a = lN b ↔ a = b := by
  constructor
  · intro h
    have h1 : (BitVec.ofNat 64 a).toNat = (BitVec.ofNat 64 b).toNat := congrArg (fun x : Int64 => x.toBitVec.toNat) h
    rw [BitVec.toNat_ofNat, BitVec.toNat_ofNat, Nat.mod_eq_of_lt (by omega), Nat.mod_eq_of_lt (by omega)] at h1
    exact h1
  · rintro rfl; rfl
theorem fb_bit_nat (n j : Nat) : n &&& 2 ^ j = 0 ↔ n.testBit j = false := by
  constructor
  · intro h
    have h1 : (n &&& 2 ^ j).testBit j = false := by rw [h]; simp
    rw [Nat.testBit_and] at h1
    simpa using h1
  · intro h
    apply Nat.eq_of_testBit_eq
    intro i
    rw [Nat.testBit_and]
    by_cases hi : j = i
    · subst hi; simp [h]
    · first | (simp [Nat.testBit_two_pow, hi]; done) | (simp [Nat.testBit_two_pow_of_ne hi]; done)
/-- one bit of a long -/
theorem fb_bitL {n j : Nat} (hj : j < 63) : lN n &&& lN (2 ^ j) = 0 ↔ n.testBit j = false := by
  have h2 : (2 : Nat) ^ j < 2 ^ 63 := Nat.pow_lt_pow_right (by decide) hj
  have hle : n &&& 2 ^ j ≤ 2 ^ j := Nat.and_le_right
  rw [fb_andL, ← fb_bit_nat, show (0 : Int64) = lN 0 from rfl]
  exact fb_lN_inj (by omega) (by decide)
/-- a bit set, a bit taken off -/
theorem fb_bit_set (n j i : Nat) : (n ||| 2 ^ j).testBit i = (n.testBit i || decide (i = j)) := by
  rw [Nat.testBit_or]
  by_cases h : j = i
  · subst h; simp
  · have h2 : ¬ i = j := fun e => h e.symm
    first | (simp [Nat.testBit_two_pow, h, h2]; done) | (simp [Nat.testBit_two_pow_of_ne h, h2]; done)
theorem fb_bit_flip (n j i : Nat) : (n ^^^ 2 ^ j).testBit i = (n.testBit i ^^ decide (i = j)) := by
  rw [Nat.testBit_xor]
  by_cases h : j = i
  · subst h; simp
  · have h2 : ¬ i = j := fun e => h e.symm
    first | (simp [Nat.testBit_two_pow, h, h2]; done) | (simp [Nat.testBit_two_pow_of_ne h, h2]; done)
/-! ===== a stretch of an array written over by a function ===== -/
def fb_put {α : Type} (f g : Nat → α) (a n : Nat) : Nat → α := fun k => if a ≤ k ∧ k < a + n then g (k - a) else f k
theorem fb_put_0 {α : Type} (f g : Nat → α) (a : Nat) : fb_put f g a 0 = f := funext fun k => if_neg (by omega)
theorem fb_put_in {α : Type} {f g : Nat → α} {a n k : Nat} (h1 : a ≤ k) (h2 : k < a + n) : fb_put f g a n k = g (k - a) := if_pos ⟨h1, h2⟩
theorem fb_put_out {α : Type} {f g : Nat → α} {a n k : Nat} (h : k < a ∨ a + n ≤ k) : fb_put f g a n k = f k := if_neg (by omega)
theorem fb_put_succ (f g : Nat → Int32) (a n : Nat) : upd (fb_put f g a n) (a + n) (g n) = fb_put f g a (n + 1) := by
  funext k
  by_cases h : k = a + n
  · subst h
    simp [upd, fb_put]
  · by_cases h1 : a ≤ k ∧ k < a + n
    · have h2 : a ≤ k ∧ k < a + (n + 1) := by omega
      simp only [upd, fb_put, if_neg h, if_pos h1, if_pos h2]
    · have h2 : ¬ (a ≤ k ∧ k < a + (n + 1)) := by omega
      simp only [upd, fb_put, if_neg h, if_neg h1, if_neg h2]
/-- .. from the far end down -/
theorem fb_put_down (f g : Nat → Int32) {a n m : Nat} (h : m < n) : upd (fb_put f (fun k => g (k + (m + 1))) (a + (m + 1)) (n - (m + 1))) (a + m) (g m) = fb_put f (fun k => g (k + m)) (a + m) (n - m) := by
  funext k
  by_cases h0 : k = a + m
  · subst h0
    simp only [upd, if_true]
    rw [fb_put_in (by omega) (by omega)]
    exact congrArg g (by omega)
  · simp only [upd, if_neg h0]
    by_cases h1 : a + (m + 1) ≤ k ∧ k < a + (m + 1) + (n - (m + 1))
    · rw [fb_put_in h1.1 h1.2, fb_put_in (by omega) (by omega)]
      exact congrArg g (by omega)
    · rw [fb_put_out (by omega), fb_put_out (by omega)]
theorem fb_put_cong {α : Type} {f f2 g g2 : Nat → α} {a n : Nat} (hf : ∀ k, (k < a ∨ a + n ≤ k) → f k = f2 k) (hg : ∀ k, k < n → g k = g2 k) : fb_put f g a n = fb_put f2 g2 a n := by
  funext k
  by_cases h : a ≤ k ∧ k < a + n
  · rw [fb_put_in h.1 h.2, fb_put_in h.1 h.2, hg _ (by omega)]
  · rw [fb_put_out (by omega), fb_put_out (by omega), hf _ (by omega)]
/-! ===== the least, the first, the best so far; that there is one alone ===== -/
theorem fb_first {p : Nat → Prop} [DecidablePred p] : ∀ {n : Nat}, (∃ i, i < n ∧ p i) → ∃ i, i < n ∧ p i ∧ ∀ j, j < i → ¬ p j
  | 0, h => by obtain ⟨i, hi, -⟩ := h; exact absurd hi (Nat.not_lt_zero i)
  | n + 1, h => by
    by_cases q : ∃ i, i < n ∧ p i
    · obtain ⟨i, h1, h2⟩ := fb_first q
      exact ⟨i, by omega, h2⟩
    · obtain ⟨i, h1, h2⟩ := h
      have e : i = n := by
        rcases Nat.lt_or_ge i n with r | r
        · exact absurd ⟨i, r, h2⟩ q
        · omega
      subst e
      exact ⟨i, by omega, h2, fun j hj hp => q ⟨j, hj, hp⟩⟩
theorem fb_first_one {p : Nat → Prop} {i j : Nat} (hi : p i) (hi2 : ∀ k, k < i → ¬ p k) (hj : p j) (hj2 : ∀ k, k < j → ¬ p k) : i = j := by
  rcases Nat.lt_trichotomy i j with q | q | q
  · exact absurd hi (hj2 i q)
  · exact q
  · exact absurd hj (hi2 j q)
theorem fb_last {p : Nat → Prop} [DecidablePred p] : ∀ {n : Nat}, (∃ i, i < n ∧ p i) → ∃ i, i < n ∧ p i ∧ ∀ j, i < j → j < n → ¬ p j
  | 0, h => by obtain ⟨i, hi, -⟩ := h; exact absurd hi (Nat.not_lt_zero i)
  | n + 1, h => by
    by_cases q : p n
    · exact ⟨n, by omega, q, fun j h1 h2 => by omega⟩
    · obtain ⟨i, h1, h2⟩ := h
      have hi : i < n := by
        rcases Nat.lt_or_ge i n with r | r
        · exact r
        · have e : i = n := by omega
          subst e
          exact absurd h2 q
      obtain ⟨i2, a1, a2, a3⟩ := fb_last (n := n) ⟨i, hi, h2⟩
      refine ⟨i2, by omega, a2, fun j b1 b2 => ?_⟩
      rcases Nat.lt_or_ge j n with r | r
      · exact a3 j b1 r
      · have e : j = n := by omega
        subst e
        exact q
/-- the first greatest -/
theorem fb_best (f : Nat → Int) : ∀ {n : Nat}, 0 < n → ∃ i, i < n ∧ (∀ j, j < n → f j ≤ f i) ∧ ∀ j, j < i → f j < f i
  | 0, h => absurd h (Nat.lt_irrefl 0)
  | 1, _ => ⟨0, by omega, fun j hj => by have e : j = 0 := by omega
                                         subst e; exact Int.le_refl _, fun j hj => absurd hj (Nat.not_lt_zero j)⟩
  | n + 2, _ => by
    obtain ⟨i, h1, h2, h3⟩ := fb_best f (n := n + 1) (by omega)
    by_cases q : f i < f (n + 1)
    · refine ⟨n + 1, by omega, fun j hj => ?_, fun j hj => ?_⟩
      · rcases Nat.lt_or_ge j (n + 1) with r | r
        · have := h2 j r; omega
        · have e : j = n + 1 := by omega
          subst e; exact Int.le_refl _
      · have := h2 j hj; omega
    · refine ⟨i, by omega, fun j hj => ?_, h3⟩
      rcases Nat.lt_or_ge j (n + 1) with r | r
      · exact h2 j r
      · have e : j = n + 1 := by omega
        subst e; omega
theorem fb_best_one {f : Nat → Int} {n i j : Nat} (hi : i < n) (hi2 : ∀ k, k < n → f k ≤ f i) (hi3 : ∀ k, k < i → f k < f i) (hj : j < n) (hj2 : ∀ k, k < n → f k ≤ f j) (hj3 : ∀ k, k < j → f k < f j) : i = j := by
  rcases Nat.lt_trichotomy i j with q | q | q
  · have a := hj3 i q
    have b := hi2 j hj
    omega
  · exact q
  · have a := hi3 j q
    have b := hj2 i hi
    omega
/-- the first least -/
theorem fb_low (f : Nat → Int) {n : Nat} (h : 0 < n) : ∃ i, i < n ∧ (∀ j, j < n → f i ≤ f j) ∧ ∀ j, j < i → f i < f j := by
  obtain ⟨i, h1, h2, h3⟩ := fb_best (fun k => -f k) h
  exact ⟨i, h1, fun j hj => by have := h2 j hj; omega, fun j hj => by have := h3 j hj; omega⟩
/-! ===== signed ints as whole numbers, within bounds ===== -/
theorem fb_rng (x : Int32) : -2147483648 ≤ x.toInt ∧ x.toInt < 2147483648 := by
  have h1 := Int32.le_toInt x
  have h2 := Int32.toInt_lt x
  omega
theorem fb_bmod {z : Int} (h1 : -2147483648 ≤ z) (h2 : z < 2147483648) : z.bmod (2 ^ 32) = z := by
  rw [Int.bmod_eq_of_le (by omega) (by omega)]
theorem fb_addI {x y : Int32} (h1 : -2147483648 ≤ x.toInt + y.toInt) (h2 : x.toInt + y.toInt < 2147483648) : (x + y).toInt = x.toInt + y.toInt := by
  rw [Int32.toInt_add, fb_bmod h1 h2]
theorem fb_subI {x y : Int32} (h1 : -2147483648 ≤ x.toInt - y.toInt) (h2 : x.toInt - y.toInt < 2147483648) : (x - y).toInt = x.toInt - y.toInt := by
  rw [Int32.toInt_sub, fb_bmod h1 h2]
theorem fb_mulI {x y : Int32} (h1 : -2147483648 ≤ x.toInt * y.toInt) (h2 : x.toInt * y.toInt < 2147483648) : (x * y).toInt = x.toInt * y.toInt := by
  rw [Int32.toInt_mul, fb_bmod h1 h2]
theorem fb_negI {x : Int32} (h : x.toInt ≠ -2147483648) : (-x).toInt = -x.toInt := by
  have := fb_rng x
  rw [Int32.toInt_neg, fb_bmod (by omega) (by omega)]
theorem fb_ofI {z : Int} (h1 : -2147483648 ≤ z) (h2 : z < 2147483648) : (Int32.ofInt z).toInt = z := by
  rw [Int32.toInt_ofInt, fb_bmod h1 h2]
theorem fb_asI (x : Int32) : Int32.ofInt x.toInt = x := Int32.ofInt_toInt x
theorem fb_rngL (x : Int64) : -9223372036854775808 ≤ x.toInt ∧ x.toInt < 9223372036854775808 := by
  have h1 := Int64.le_toInt x
  have h2 := Int64.toInt_lt x
  omega
theorem fb_bmodL {z : Int} (h1 : -9223372036854775808 ≤ z) (h2 : z < 9223372036854775808) : z.bmod (2 ^ 64) = z := by
  rw [Int.bmod_eq_of_le (by omega) (by omega)]
theorem fb_addL {x y : Int64} (h1 : -9223372036854775808 ≤ x.toInt + y.toInt) (h2 : x.toInt + y.toInt < 9223372036854775808) : (x + y).toInt = x.toInt + y.toInt := by
  rw [Int64.toInt_add, fb_bmodL h1 h2]
theorem fb_subL {x y : Int64} (h1 : -9223372036854775808 ≤ x.toInt - y.toInt) (h2 : x.toInt - y.toInt < 9223372036854775808) : (x - y).toInt = x.toInt - y.toInt := by
  rw [Int64.toInt_sub, fb_bmodL h1 h2]
theorem fb_mulL {x y : Int64} (h1 : -9223372036854775808 ≤ x.toInt * y.toInt) (h2 : x.toInt * y.toInt < 9223372036854775808) : (x * y).toInt = x.toInt * y.toInt := by
  rw [Int64.toInt_mul, fb_bmodL h1 h2]
/-! ===== cuts of what is narrow already ===== -/
theorem fb_byte {x : Int32} (h1 : -128 ≤ x.toInt) (h2 : x.toInt < 128) : x.toInt8.toInt32 = x := by
  apply Int32.toInt_inj.1
  rw [Int8.toInt_toInt32, Int32.toInt_toInt8, Int.bmod_eq_of_le (by omega) (by omega)]
theorem fb_short {x : Int32} (h1 : -32768 ≤ x.toInt) (h2 : x.toInt < 32768) : x.toInt16.toInt32 = x := by
  apply Int32.toInt_inj.1
  rw [Int16.toInt_toInt32, Int32.toInt_toInt16, Int.bmod_eq_of_le (by omega) (by omega)]
theorem fb_byte_rng (x : Int32) : -128 ≤ x.toInt8.toInt32.toInt ∧ x.toInt8.toInt32.toInt < 128 := by
  rw [Int8.toInt_toInt32]
  have h1 := Int8.le_toInt x.toInt8
  have h2 := Int8.toInt_lt x.toInt8
  omega
theorem fb_short_rng (x : Int32) : -32768 ≤ x.toInt16.toInt32.toInt ∧ x.toInt16.toInt32.toInt < 32768 := by
  rw [Int16.toInt_toInt32]
  have h1 := Int16.le_toInt x.toInt16
  have h2 := Int16.toInt_lt x.toInt16
  omega
theorem fb_byte_twice (x : Int32) : x.toInt8.toInt32.toInt8.toInt32 = x.toInt8.toInt32 := fb_byte (fb_byte_rng x).1 (fb_byte_rng x).2
theorem fb_short_twice (x : Int32) : x.toInt16.toInt32.toInt16.toInt32 = x.toInt16.toInt32 := fb_short (fb_short_rng x).1 (fb_short_rng x).2
theorem fb_char {n : Nat} (h : n < 65536) : (nI n).toUInt32.toUInt16.toUInt32.toInt32 = nI n := by
  apply Int32.toBitVec_inj.1
  apply BitVec.eq_of_toNat_eq
  have e1 : (nI n).toBitVec.toNat = n := by
    show (BitVec.ofNat 32 n).toNat = n
    rw [BitVec.toNat_ofNat, Nat.mod_eq_of_lt (by omega)]
  have e2 : ((nI n).toUInt32.toUInt16.toUInt32).toNat = n := by
    rw [UInt16.toNat_toUInt32, UInt32.toNat_toUInt16]
    show (nI n).toBitVec.toNat % 2 ^ 16 = n
    rw [e1, Nat.mod_eq_of_lt (by omega)]
  rw [e1]
  exact e2
end
section
/-! CellUnion -/
set_option maxRecDepth 100000
def RX0 : String := "CellUnion"
def TX0 : u_T := fun k => match k with
  | 0 => ("CellUnion", "count", "[B", true)
  | 1 => ("CellUnion", "first", "[S", true)
  | 2 => ("CellUnion", "last", "[S", true)
  | 3 => ("CellUnion", "madeCount", "I", false)
  | 4 => ("CellUnion", "madeFirst", "[S", true)
  | 5 => ("CellUnion", "madeLast", "[S", true)
  | 6 => ("CellUnion", "cellX", "I", false)
  | _ => ("CellUnion", "cellY", "I", false)
def tyX0 : Nat → FieldType := fun k => match k with
  | 0 => .array .byte
  | 1 => .array .short
  | 2 => .array .short
  | 3 => .int
  | 4 => .array .short
  | 5 => .array .short
  | 6 => .int
  | _ => .int
abbrev wsX00 : List Cond := u_ws RX0 TX0 8
theorem nmX0 : ∀ a, a < 8 → ∀ b, b < 8 → a ≠ b → (TX0 a).2.1 ≠ (TX0 b).2.1 := by decide +kernel
theorem tyX0_ok : ∀ k, k < 8 → parseFieldDescriptor (TX0 k).2.2.1 = some (tyX0 k) := by decide +kernel
abbrev cX0_init : ByteArray := prog_1_method_1_code
def yX0_init : MethodName := ⟨RX0, "<init>", "()V"⟩
theorem dX0_init_0 : decode cX0_init 0 = .ok (.aload_n 0, 1) := by decide +kernel
theorem dX0_init_1 : decode cX0_init 1 = .ok (.invokespecial 1, 3) := by decide +kernel
theorem dX0_init_4 : decode cX0_init 4 = .ok (.aload_n 0, 1) := by decide +kernel
theorem dX0_init_5 : decode cX0_init 5 = .ok (.iconst 5, 1) := by decide +kernel
theorem dX0_init_6 : decode cX0_init 6 = .ok (.newarray .byte, 2) := by decide +kernel
theorem dX0_init_8 : decode cX0_init 8 = .ok (.putfield 7, 3) := by decide +kernel
theorem dX0_init_11 : decode cX0_init 11 = .ok (.aload_n 0, 1) := by decide +kernel
theorem dX0_init_12 : decode cX0_init 12 = .ok (.sipush 200, 3) := by decide +kernel
theorem dX0_init_15 : decode cX0_init 15 = .ok (.newarray .short, 2) := by decide +kernel
theorem dX0_init_17 : decode cX0_init 17 = .ok (.putfield 13, 3) := by decide +kernel
theorem dX0_init_20 : decode cX0_init 20 = .ok (.aload_n 0, 1) := by decide +kernel
theorem dX0_init_21 : decode cX0_init 21 = .ok (.sipush 200, 3) := by decide +kernel
theorem dX0_init_24 : decode cX0_init 24 = .ok (.newarray .short, 2) := by decide +kernel
theorem dX0_init_26 : decode cX0_init 26 = .ok (.putfield 17, 3) := by decide +kernel
theorem dX0_init_29 : decode cX0_init 29 = .ok (.aload_n 0, 1) := by decide +kernel
theorem dX0_init_30 : decode cX0_init 30 = .ok (.bipush 84, 2) := by decide +kernel
theorem dX0_init_32 : decode cX0_init 32 = .ok (.newarray .short, 2) := by decide +kernel
theorem dX0_init_34 : decode cX0_init 34 = .ok (.putfield 20, 3) := by decide +kernel
theorem dX0_init_37 : decode cX0_init 37 = .ok (.aload_n 0, 1) := by decide +kernel
theorem dX0_init_38 : decode cX0_init 38 = .ok (.bipush 84, 2) := by decide +kernel
theorem dX0_init_40 : decode cX0_init 40 = .ok (.newarray .short, 2) := by decide +kernel
theorem dX0_init_42 : decode cX0_init 42 = .ok (.putfield 23, 3) := by decide +kernel
theorem dX0_init_45 : decode cX0_init 45 = .ok (.return_, 1) := by decide +kernel
abbrev cX0_change : ByteArray := prog_1_method_2_code
def yX0_change : MethodName := ⟨RX0, "change", "(IIZ)I"⟩
theorem dX0_change_0 : decode cX0_change 0 = .ok (.aload_n 0, 1) := by decide +kernel
theorem dX0_change_1 : decode cX0_change 1 = .ok (.iload_n 1, 1) := by decide +kernel
theorem dX0_change_2 : decode cX0_change 2 = .ok (.invokevirtual 26, 3) := by decide +kernel
theorem dX0_change_5 : decode cX0_change 5 = .ok (.ifCond .eq 7, 3) := by decide +kernel
theorem dX0_change_8 : decode cX0_change 8 = .ok (.iload_n 2, 1) := by decide +kernel
theorem dX0_change_9 : decode cX0_change 9 = .ok (.ifCond .ge 5, 3) := by decide +kernel
theorem dX0_change_12 : decode cX0_change 12 = .ok (.iconst (-1), 1) := by decide +kernel
theorem dX0_change_13 : decode cX0_change 13 = .ok (.ireturn, 1) := by decide +kernel
theorem dX0_change_14 : decode cX0_change 14 = .ok (.iload_n 2, 1) := by decide +kernel
theorem dX0_change_15 : decode cX0_change 15 = .ok (.bipush 10, 2) := by decide +kernel
theorem dX0_change_17 : decode cX0_change 17 = .ok (.ishr, 1) := by decide +kernel
theorem dX0_change_18 : decode cX0_change 18 = .ok (.istore 4, 2) := by decide +kernel
theorem dX0_change_20 : decode cX0_change 20 = .ok (.iload_n 2, 1) := by decide +kernel
theorem dX0_change_21 : decode cX0_change 21 = .ok (.iconst 5, 1) := by decide +kernel
theorem dX0_change_22 : decode cX0_change 22 = .ok (.ishr, 1) := by decide +kernel
theorem dX0_change_23 : decode cX0_change 23 = .ok (.bipush 31, 2) := by decide +kernel
theorem dX0_change_25 : decode cX0_change 25 = .ok (.iand, 1) := by decide +kernel
theorem dX0_change_26 : decode cX0_change 26 = .ok (.istore 5, 2) := by decide +kernel
theorem dX0_change_28 : decode cX0_change 28 = .ok (.iload_n 2, 1) := by decide +kernel
theorem dX0_change_29 : decode cX0_change 29 = .ok (.bipush 31, 2) := by decide +kernel
theorem dX0_change_31 : decode cX0_change 31 = .ok (.iand, 1) := by decide +kernel
theorem dX0_change_32 : decode cX0_change 32 = .ok (.istore 6, 2) := by decide +kernel
theorem dX0_change_34 : decode cX0_change 34 = .ok (.iload 4, 2) := by decide +kernel
theorem dX0_change_36 : decode cX0_change 36 = .ok (.iconst 4, 1) := by decide +kernel
theorem dX0_change_37 : decode cX0_change 37 = .ok (.if_icmp .gt 21, 3) := by decide +kernel
theorem dX0_change_40 : decode cX0_change 40 = .ok (.iload 5, 2) := by decide +kernel
theorem dX0_change_42 : decode cX0_change 42 = .ok (.iconst 1, 1) := by decide +kernel
theorem dX0_change_43 : decode cX0_change 43 = .ok (.iload 4, 2) := by decide +kernel
theorem dX0_change_45 : decode cX0_change 45 = .ok (.ishl, 1) := by decide +kernel
theorem dX0_change_46 : decode cX0_change 46 = .ok (.if_icmp .ge 12, 3) := by decide +kernel
theorem dX0_change_49 : decode cX0_change 49 = .ok (.iload 6, 2) := by decide +kernel
theorem dX0_change_51 : decode cX0_change 51 = .ok (.iconst 1, 1) := by decide +kernel
theorem dX0_change_52 : decode cX0_change 52 = .ok (.iload 4, 2) := by decide +kernel
theorem dX0_change_54 : decode cX0_change 54 = .ok (.ishl, 1) := by decide +kernel
theorem dX0_change_55 : decode cX0_change 55 = .ok (.if_icmp .lt 5, 3) := by decide +kernel
theorem dX0_change_58 : decode cX0_change 58 = .ok (.iconst (-1), 1) := by decide +kernel
theorem dX0_change_59 : decode cX0_change 59 = .ok (.ireturn, 1) := by decide +kernel
theorem dX0_change_60 : decode cX0_change 60 = .ok (.iconst 1, 1) := by decide +kernel
theorem dX0_change_61 : decode cX0_change 61 = .ok (.iconst 4, 1) := by decide +kernel
theorem dX0_change_62 : decode cX0_change 62 = .ok (.iload 4, 2) := by decide +kernel
theorem dX0_change_64 : decode cX0_change 64 = .ok (.isub, 1) := by decide +kernel
theorem dX0_change_65 : decode cX0_change 65 = .ok (.ishl, 1) := by decide +kernel
theorem dX0_change_66 : decode cX0_change 66 = .ok (.istore 7, 2) := by decide +kernel
theorem dX0_change_68 : decode cX0_change 68 = .ok (.iload 7, 2) := by decide +kernel
theorem dX0_change_70 : decode cX0_change 70 = .ok (.iload 7, 2) := by decide +kernel
theorem dX0_change_72 : decode cX0_change 72 = .ok (.imul, 1) := by decide +kernel
theorem dX0_change_73 : decode cX0_change 73 = .ok (.istore 8, 2) := by decide +kernel
theorem dX0_change_75 : decode cX0_change 75 = .ok (.aload_n 0, 1) := by decide +kernel
theorem dX0_change_76 : decode cX0_change 76 = .ok (.iload 5, 2) := by decide +kernel
theorem dX0_change_78 : decode cX0_change 78 = .ok (.iload 7, 2) := by decide +kernel
theorem dX0_change_80 : decode cX0_change 80 = .ok (.imul, 1) := by decide +kernel
theorem dX0_change_81 : decode cX0_change 81 = .ok (.iload 6, 2) := by decide +kernel
theorem dX0_change_83 : decode cX0_change 83 = .ok (.iload 7, 2) := by decide +kernel
theorem dX0_change_85 : decode cX0_change 85 = .ok (.imul, 1) := by decide +kernel
theorem dX0_change_86 : decode cX0_change 86 = .ok (.invokevirtual 30, 3) := by decide +kernel
theorem dX0_change_89 : decode cX0_change 89 = .ok (.iload 8, 2) := by decide +kernel
theorem dX0_change_91 : decode cX0_change 91 = .ok (.ineg, 1) := by decide +kernel
theorem dX0_change_92 : decode cX0_change 92 = .ok (.iand, 1) := by decide +kernel
theorem dX0_change_93 : decode cX0_change 93 = .ok (.istore 9, 2) := by decide +kernel
theorem dX0_change_95 : decode cX0_change 95 = .ok (.aload_n 0, 1) := by decide +kernel
theorem dX0_change_96 : decode cX0_change 96 = .ok (.getfield 7, 3) := by decide +kernel
theorem dX0_change_99 : decode cX0_change 99 = .ok (.iconst 4, 1) := by decide +kernel
theorem dX0_change_100 : decode cX0_change 100 = .ok (.iconst 1, 1) := by decide +kernel
theorem dX0_change_101 : decode cX0_change 101 = .ok (.bastore, 1) := by decide +kernel
theorem dX0_change_102 : decode cX0_change 102 = .ok (.aload_n 0, 1) := by decide +kernel
theorem dX0_change_103 : decode cX0_change 103 = .ok (.getfield 13, 3) := by decide +kernel
theorem dX0_change_106 : decode cX0_change 106 = .ok (.sipush 160, 3) := by decide +kernel
theorem dX0_change_109 : decode cX0_change 109 = .ok (.iload 9, 2) := by decide +kernel
theorem dX0_change_111 : decode cX0_change 111 = .ok (.i2s, 1) := by decide +kernel
theorem dX0_change_112 : decode cX0_change 112 = .ok (.sastore, 1) := by decide +kernel
theorem dX0_change_113 : decode cX0_change 113 = .ok (.aload_n 0, 1) := by decide +kernel
theorem dX0_change_114 : decode cX0_change 114 = .ok (.getfield 17, 3) := by decide +kernel
theorem dX0_change_117 : decode cX0_change 117 = .ok (.sipush 160, 3) := by decide +kernel
theorem dX0_change_120 : decode cX0_change 120 = .ok (.iload 9, 2) := by decide +kernel
theorem dX0_change_122 : decode cX0_change 122 = .ok (.iload 8, 2) := by decide +kernel
theorem dX0_change_124 : decode cX0_change 124 = .ok (.iadd, 1) := by decide +kernel
theorem dX0_change_125 : decode cX0_change 125 = .ok (.iconst 1, 1) := by decide +kernel
theorem dX0_change_126 : decode cX0_change 126 = .ok (.isub, 1) := by decide +kernel
theorem dX0_change_127 : decode cX0_change 127 = .ok (.i2s, 1) := by decide +kernel
theorem dX0_change_128 : decode cX0_change 128 = .ok (.sastore, 1) := by decide +kernel
theorem dX0_change_129 : decode cX0_change 129 = .ok (.aload_n 0, 1) := by decide +kernel
theorem dX0_change_130 : decode cX0_change 130 = .ok (.iload_n 1, 1) := by decide +kernel
theorem dX0_change_131 : decode cX0_change 131 = .ok (.iload_n 3, 1) := by decide +kernel
theorem dX0_change_132 : decode cX0_change 132 = .ok (.ifCond .eq 7, 3) := by decide +kernel
theorem dX0_change_135 : decode cX0_change 135 = .ok (.iconst 1, 1) := by decide +kernel
theorem dX0_change_136 : decode cX0_change 136 = .ok (.goto 4, 3) := by decide +kernel
theorem dX0_change_139 : decode cX0_change 139 = .ok (.iconst 2, 1) := by decide +kernel
theorem dX0_change_140 : decode cX0_change 140 = .ok (.iload_n 1, 1) := by decide +kernel
theorem dX0_change_141 : decode cX0_change 141 = .ok (.iconst 4, 1) := by decide +kernel
theorem dX0_change_142 : decode cX0_change 142 = .ok (.invokevirtual 34, 3) := by decide +kernel
theorem dX0_change_145 : decode cX0_change 145 = .ok (.ireturn, 1) := by decide +kernel
abbrev cX0_isSet : ByteArray := prog_1_method_4_code
def yX0_isSet : MethodName := ⟨RX0, "isSet", "(I)Z"⟩
theorem dX0_isSet_0 : decode cX0_isSet 0 = .ok (.iload_n 1, 1) := by decide +kernel
theorem dX0_isSet_1 : decode cX0_isSet 1 = .ok (.ifCond .lt 12, 3) := by decide +kernel
theorem dX0_isSet_4 : decode cX0_isSet 4 = .ok (.iload_n 1, 1) := by decide +kernel
theorem dX0_isSet_5 : decode cX0_isSet 5 = .ok (.iconst 3, 1) := by decide +kernel
theorem dX0_isSet_6 : decode cX0_isSet 6 = .ok (.if_icmp .gt 7, 3) := by decide +kernel
theorem dX0_isSet_9 : decode cX0_isSet 9 = .ok (.iconst 1, 1) := by decide +kernel
theorem dX0_isSet_10 : decode cX0_isSet 10 = .ok (.goto 4, 3) := by decide +kernel
theorem dX0_isSet_13 : decode cX0_isSet 13 = .ok (.iconst 0, 1) := by decide +kernel
theorem dX0_isSet_14 : decode cX0_isSet 14 = .ok (.ireturn, 1) := by decide +kernel
abbrev cX0_numberOf : ByteArray := prog_1_method_19_code
def yX0_numberOf : MethodName := ⟨RX0, "numberOf", "(II)I"⟩
theorem dX0_numberOf_0 : decode cX0_numberOf 0 = .ok (.iload_n 1, 1) := by decide +kernel
theorem dX0_numberOf_1 : decode cX0_numberOf 1 = .ok (.istore_n 3, 1) := by decide +kernel
theorem dX0_numberOf_2 : decode cX0_numberOf 2 = .ok (.iload_n 2, 1) := by decide +kernel
theorem dX0_numberOf_3 : decode cX0_numberOf 3 = .ok (.istore 4, 2) := by decide +kernel
theorem dX0_numberOf_5 : decode cX0_numberOf 5 = .ok (.iconst 0, 1) := by decide +kernel
theorem dX0_numberOf_6 : decode cX0_numberOf 6 = .ok (.istore 5, 2) := by decide +kernel
theorem dX0_numberOf_8 : decode cX0_numberOf 8 = .ok (.bipush 8, 2) := by decide +kernel
theorem dX0_numberOf_10 : decode cX0_numberOf 10 = .ok (.istore 6, 2) := by decide +kernel
theorem dX0_numberOf_12 : decode cX0_numberOf 12 = .ok (.iload 6, 2) := by decide +kernel
theorem dX0_numberOf_14 : decode cX0_numberOf 14 = .ok (.ifCond .le 100, 3) := by decide +kernel
theorem dX0_numberOf_17 : decode cX0_numberOf 17 = .ok (.iload_n 3, 1) := by decide +kernel
theorem dX0_numberOf_18 : decode cX0_numberOf 18 = .ok (.iload 6, 2) := by decide +kernel
theorem dX0_numberOf_20 : decode cX0_numberOf 20 = .ok (.iand, 1) := by decide +kernel
theorem dX0_numberOf_21 : decode cX0_numberOf 21 = .ok (.ifCond .eq 7, 3) := by decide +kernel
theorem dX0_numberOf_24 : decode cX0_numberOf 24 = .ok (.iconst 1, 1) := by decide +kernel
theorem dX0_numberOf_25 : decode cX0_numberOf 25 = .ok (.goto 4, 3) := by decide +kernel
theorem dX0_numberOf_28 : decode cX0_numberOf 28 = .ok (.iconst 0, 1) := by decide +kernel
theorem dX0_numberOf_29 : decode cX0_numberOf 29 = .ok (.istore 7, 2) := by decide +kernel
theorem dX0_numberOf_31 : decode cX0_numberOf 31 = .ok (.iload 4, 2) := by decide +kernel
theorem dX0_numberOf_33 : decode cX0_numberOf 33 = .ok (.iload 6, 2) := by decide +kernel
theorem dX0_numberOf_35 : decode cX0_numberOf 35 = .ok (.iand, 1) := by decide +kernel
theorem dX0_numberOf_36 : decode cX0_numberOf 36 = .ok (.ifCond .eq 7, 3) := by decide +kernel
theorem dX0_numberOf_39 : decode cX0_numberOf 39 = .ok (.iconst 1, 1) := by decide +kernel
theorem dX0_numberOf_40 : decode cX0_numberOf 40 = .ok (.goto 4, 3) := by decide +kernel
theorem dX0_numberOf_43 : decode cX0_numberOf 43 = .ok (.iconst 0, 1) := by decide +kernel
theorem dX0_numberOf_44 : decode cX0_numberOf 44 = .ok (.istore 8, 2) := by decide +kernel
theorem dX0_numberOf_46 : decode cX0_numberOf 46 = .ok (.iconst 4, 1) := by decide +kernel
theorem dX0_numberOf_47 : decode cX0_numberOf 47 = .ok (.iload 5, 2) := by decide +kernel
theorem dX0_numberOf_49 : decode cX0_numberOf 49 = .ok (.imul, 1) := by decide +kernel
theorem dX0_numberOf_50 : decode cX0_numberOf 50 = .ok (.iconst 3, 1) := by decide +kernel
theorem dX0_numberOf_51 : decode cX0_numberOf 51 = .ok (.iload 7, 2) := by decide +kernel
theorem dX0_numberOf_53 : decode cX0_numberOf 53 = .ok (.imul, 1) := by decide +kernel
theorem dX0_numberOf_54 : decode cX0_numberOf 54 = .ok (.iload 8, 2) := by decide +kernel
theorem dX0_numberOf_56 : decode cX0_numberOf 56 = .ok (.ixor, 1) := by decide +kernel
theorem dX0_numberOf_57 : decode cX0_numberOf 57 = .ok (.iadd, 1) := by decide +kernel
theorem dX0_numberOf_58 : decode cX0_numberOf 58 = .ok (.istore 5, 2) := by decide +kernel
theorem dX0_numberOf_60 : decode cX0_numberOf 60 = .ok (.iload 8, 2) := by decide +kernel
theorem dX0_numberOf_62 : decode cX0_numberOf 62 = .ok (.iconst 1, 1) := by decide +kernel
theorem dX0_numberOf_63 : decode cX0_numberOf 63 = .ok (.if_icmp .ne 6, 3) := by decide +kernel
theorem dX0_numberOf_66 : decode cX0_numberOf 66 = .ok (.goto 39, 3) := by decide +kernel
theorem dX0_numberOf_69 : decode cX0_numberOf 69 = .ok (.iload_n 3, 1) := by decide +kernel
theorem dX0_numberOf_70 : decode cX0_numberOf 70 = .ok (.istore 9, 2) := by decide +kernel
theorem dX0_numberOf_72 : decode cX0_numberOf 72 = .ok (.iload 7, 2) := by decide +kernel
theorem dX0_numberOf_74 : decode cX0_numberOf 74 = .ok (.ifCond .ne 8, 3) := by decide +kernel
theorem dX0_numberOf_77 : decode cX0_numberOf 77 = .ok (.iload 4, 2) := by decide +kernel
theorem dX0_numberOf_79 : decode cX0_numberOf 79 = .ok (.goto 8, 3) := by decide +kernel
theorem dX0_numberOf_82 : decode cX0_numberOf 82 = .ok (.bipush 15, 2) := by decide +kernel
theorem dX0_numberOf_84 : decode cX0_numberOf 84 = .ok (.iload 4, 2) := by decide +kernel
theorem dX0_numberOf_86 : decode cX0_numberOf 86 = .ok (.isub, 1) := by decide +kernel
theorem dX0_numberOf_87 : decode cX0_numberOf 87 = .ok (.istore_n 3, 1) := by decide +kernel
theorem dX0_numberOf_88 : decode cX0_numberOf 88 = .ok (.iload 7, 2) := by decide +kernel
theorem dX0_numberOf_90 : decode cX0_numberOf 90 = .ok (.ifCond .ne 8, 3) := by decide +kernel
theorem dX0_numberOf_93 : decode cX0_numberOf 93 = .ok (.iload 9, 2) := by decide +kernel
theorem dX0_numberOf_95 : decode cX0_numberOf 95 = .ok (.goto 8, 3) := by decide +kernel
theorem dX0_numberOf_98 : decode cX0_numberOf 98 = .ok (.bipush 15, 2) := by decide +kernel
theorem dX0_numberOf_100 : decode cX0_numberOf 100 = .ok (.iload 9, 2) := by decide +kernel
theorem dX0_numberOf_102 : decode cX0_numberOf 102 = .ok (.isub, 1) := by decide +kernel
theorem dX0_numberOf_103 : decode cX0_numberOf 103 = .ok (.istore 4, 2) := by decide +kernel
theorem dX0_numberOf_105 : decode cX0_numberOf 105 = .ok (.iload 6, 2) := by decide +kernel
theorem dX0_numberOf_107 : decode cX0_numberOf 107 = .ok (.iconst 2, 1) := by decide +kernel
theorem dX0_numberOf_108 : decode cX0_numberOf 108 = .ok (.idiv, 1) := by decide +kernel
theorem dX0_numberOf_109 : decode cX0_numberOf 109 = .ok (.istore 6, 2) := by decide +kernel
theorem dX0_numberOf_111 : decode cX0_numberOf 111 = .ok (.goto (-99), 3) := by decide +kernel
theorem dX0_numberOf_114 : decode cX0_numberOf 114 = .ok (.iload 5, 2) := by decide +kernel
theorem dX0_numberOf_116 : decode cX0_numberOf 116 = .ok (.ireturn, 1) := by decide +kernel
abbrev cX0_make : ByteArray := prog_1_method_5_code
def yX0_make : MethodName := ⟨RX0, "make", "(IIII)I"⟩
theorem dX0_make_0 : decode cX0_make 0 = .ok (.bipush 40, 2) := by decide +kernel
theorem dX0_make_2 : decode cX0_make 2 = .ok (.iload_n 3, 1) := by decide +kernel
theorem dX0_make_3 : decode cX0_make 3 = .ok (.imul, 1) := by decide +kernel
theorem dX0_make_4 : decode cX0_make 4 = .ok (.istore 5, 2) := by decide +kernel
theorem dX0_make_6 : decode cX0_make 6 = .ok (.bipush 40, 2) := by decide +kernel
theorem dX0_make_8 : decode cX0_make 8 = .ok (.iload 4, 2) := by decide +kernel
theorem dX0_make_10 : decode cX0_make 10 = .ok (.imul, 1) := by decide +kernel
theorem dX0_make_11 : decode cX0_make 11 = .ok (.istore 6, 2) := by decide +kernel
theorem dX0_make_13 : decode cX0_make 13 = .ok (.iload 5, 2) := by decide +kernel
theorem dX0_make_15 : decode cX0_make 15 = .ok (.aload_n 0, 1) := by decide +kernel
theorem dX0_make_16 : decode cX0_make 16 = .ok (.getfield 7, 3) := by decide +kernel
theorem dX0_make_19 : decode cX0_make 19 = .ok (.iload_n 3, 1) := by decide +kernel
theorem dX0_make_20 : decode cX0_make 20 = .ok (.baload, 1) := by decide +kernel
theorem dX0_make_21 : decode cX0_make 21 = .ok (.iadd, 1) := by decide +kernel
theorem dX0_make_22 : decode cX0_make 22 = .ok (.istore 7, 2) := by decide +kernel
theorem dX0_make_24 : decode cX0_make 24 = .ok (.iload 6, 2) := by decide +kernel
theorem dX0_make_26 : decode cX0_make 26 = .ok (.aload_n 0, 1) := by decide +kernel
theorem dX0_make_27 : decode cX0_make 27 = .ok (.getfield 7, 3) := by decide +kernel
theorem dX0_make_30 : decode cX0_make 30 = .ok (.iload 4, 2) := by decide +kernel
theorem dX0_make_32 : decode cX0_make 32 = .ok (.baload, 1) := by decide +kernel
theorem dX0_make_33 : decode cX0_make 33 = .ok (.iadd, 1) := by decide +kernel
theorem dX0_make_34 : decode cX0_make 34 = .ok (.istore 8, 2) := by decide +kernel
theorem dX0_make_36 : decode cX0_make 36 = .ok (.iconst 0, 1) := by decide +kernel
theorem dX0_make_37 : decode cX0_make 37 = .ok (.istore 9, 2) := by decide +kernel
theorem dX0_make_39 : decode cX0_make 39 = .ok (.aload_n 0, 1) := by decide +kernel
theorem dX0_make_40 : decode cX0_make 40 = .ok (.iconst 0, 1) := by decide +kernel
theorem dX0_make_41 : decode cX0_make 41 = .ok (.putfield 38, 3) := by decide +kernel
theorem dX0_make_44 : decode cX0_make 44 = .ok (.iload 9, 2) := by decide +kernel
theorem dX0_make_46 : decode cX0_make 46 = .ok (.sipush 256, 3) := by decide +kernel
theorem dX0_make_49 : decode cX0_make 49 = .ok (.if_icmp .ge 276, 3) := by decide +kernel
theorem dX0_make_52 : decode cX0_make 52 = .ok (.iload 5, 2) := by decide +kernel
theorem dX0_make_54 : decode cX0_make 54 = .ok (.iload 7, 2) := by decide +kernel
theorem dX0_make_56 : decode cX0_make 56 = .ok (.if_icmp .ge 21, 3) := by decide +kernel
theorem dX0_make_59 : decode cX0_make 59 = .ok (.aload_n 0, 1) := by decide +kernel
theorem dX0_make_60 : decode cX0_make 60 = .ok (.getfield 17, 3) := by decide +kernel
theorem dX0_make_63 : decode cX0_make 63 = .ok (.iload 5, 2) := by decide +kernel
theorem dX0_make_65 : decode cX0_make 65 = .ok (.saload, 1) := by decide +kernel
theorem dX0_make_66 : decode cX0_make 66 = .ok (.iload 9, 2) := by decide +kernel
theorem dX0_make_68 : decode cX0_make 68 = .ok (.if_icmp .ge 9, 3) := by decide +kernel
theorem dX0_make_71 : decode cX0_make 71 = .ok (.iinc 5 1, 3) := by decide +kernel
theorem dX0_make_74 : decode cX0_make 74 = .ok (.goto (-22), 3) := by decide +kernel
theorem dX0_make_77 : decode cX0_make 77 = .ok (.iload 6, 2) := by decide +kernel
theorem dX0_make_79 : decode cX0_make 79 = .ok (.iload 8, 2) := by decide +kernel
theorem dX0_make_81 : decode cX0_make 81 = .ok (.if_icmp .ge 21, 3) := by decide +kernel
theorem dX0_make_84 : decode cX0_make 84 = .ok (.aload_n 0, 1) := by decide +kernel
theorem dX0_make_85 : decode cX0_make 85 = .ok (.getfield 17, 3) := by decide +kernel
theorem dX0_make_88 : decode cX0_make 88 = .ok (.iload 6, 2) := by decide +kernel
theorem dX0_make_90 : decode cX0_make 90 = .ok (.saload, 1) := by decide +kernel
theorem dX0_make_91 : decode cX0_make 91 = .ok (.iload 9, 2) := by decide +kernel
theorem dX0_make_93 : decode cX0_make 93 = .ok (.if_icmp .ge 9, 3) := by decide +kernel
theorem dX0_make_96 : decode cX0_make 96 = .ok (.iinc 6 1, 3) := by decide +kernel
theorem dX0_make_99 : decode cX0_make 99 = .ok (.goto (-22), 3) := by decide +kernel
theorem dX0_make_102 : decode cX0_make 102 = .ok (.iload 5, 2) := by decide +kernel
theorem dX0_make_104 : decode cX0_make 104 = .ok (.iload 7, 2) := by decide +kernel
theorem dX0_make_106 : decode cX0_make 106 = .ok (.if_icmp .ge 19, 3) := by decide +kernel
theorem dX0_make_109 : decode cX0_make 109 = .ok (.aload_n 0, 1) := by decide +kernel
theorem dX0_make_110 : decode cX0_make 110 = .ok (.getfield 13, 3) := by decide +kernel
theorem dX0_make_113 : decode cX0_make 113 = .ok (.iload 5, 2) := by decide +kernel
theorem dX0_make_115 : decode cX0_make 115 = .ok (.saload, 1) := by decide +kernel
theorem dX0_make_116 : decode cX0_make 116 = .ok (.iload 9, 2) := by decide +kernel
theorem dX0_make_118 : decode cX0_make 118 = .ok (.if_icmp .gt 7, 3) := by decide +kernel
theorem dX0_make_121 : decode cX0_make 121 = .ok (.iconst 1, 1) := by decide +kernel
theorem dX0_make_122 : decode cX0_make 122 = .ok (.goto 4, 3) := by decide +kernel
theorem dX0_make_125 : decode cX0_make 125 = .ok (.iconst 0, 1) := by decide +kernel
theorem dX0_make_126 : decode cX0_make 126 = .ok (.istore 10, 2) := by decide +kernel
theorem dX0_make_128 : decode cX0_make 128 = .ok (.iload 6, 2) := by decide +kernel
theorem dX0_make_130 : decode cX0_make 130 = .ok (.iload 8, 2) := by decide +kernel
theorem dX0_make_132 : decode cX0_make 132 = .ok (.if_icmp .ge 19, 3) := by decide +kernel
theorem dX0_make_135 : decode cX0_make 135 = .ok (.aload_n 0, 1) := by decide +kernel
theorem dX0_make_136 : decode cX0_make 136 = .ok (.getfield 13, 3) := by decide +kernel
theorem dX0_make_139 : decode cX0_make 139 = .ok (.iload 6, 2) := by decide +kernel
theorem dX0_make_141 : decode cX0_make 141 = .ok (.saload, 1) := by decide +kernel
theorem dX0_make_142 : decode cX0_make 142 = .ok (.iload 9, 2) := by decide +kernel
theorem dX0_make_144 : decode cX0_make 144 = .ok (.if_icmp .gt 7, 3) := by decide +kernel
theorem dX0_make_147 : decode cX0_make 147 = .ok (.iconst 1, 1) := by decide +kernel
theorem dX0_make_148 : decode cX0_make 148 = .ok (.goto 4, 3) := by decide +kernel
theorem dX0_make_151 : decode cX0_make 151 = .ok (.iconst 0, 1) := by decide +kernel
theorem dX0_make_152 : decode cX0_make 152 = .ok (.istore 11, 2) := by decide +kernel
theorem dX0_make_154 : decode cX0_make 154 = .ok (.sipush 256, 3) := by decide +kernel
theorem dX0_make_157 : decode cX0_make 157 = .ok (.istore 12, 2) := by decide +kernel
theorem dX0_make_159 : decode cX0_make 159 = .ok (.iload 5, 2) := by decide +kernel
theorem dX0_make_161 : decode cX0_make 161 = .ok (.iload 7, 2) := by decide +kernel
theorem dX0_make_163 : decode cX0_make 163 = .ok (.if_icmp .ge 29, 3) := by decide +kernel
theorem dX0_make_166 : decode cX0_make 166 = .ok (.iload 10, 2) := by decide +kernel
theorem dX0_make_168 : decode cX0_make 168 = .ok (.ifCond .eq 15, 3) := by decide +kernel
theorem dX0_make_171 : decode cX0_make 171 = .ok (.aload_n 0, 1) := by decide +kernel
theorem dX0_make_172 : decode cX0_make 172 = .ok (.getfield 17, 3) := by decide +kernel
theorem dX0_make_175 : decode cX0_make 175 = .ok (.iload 5, 2) := by decide +kernel
theorem dX0_make_177 : decode cX0_make 177 = .ok (.saload, 1) := by decide +kernel
theorem dX0_make_178 : decode cX0_make 178 = .ok (.iconst 1, 1) := by decide +kernel
theorem dX0_make_179 : decode cX0_make 179 = .ok (.iadd, 1) := by decide +kernel
theorem dX0_make_180 : decode cX0_make 180 = .ok (.goto 10, 3) := by decide +kernel
theorem dX0_make_183 : decode cX0_make 183 = .ok (.aload_n 0, 1) := by decide +kernel
theorem dX0_make_184 : decode cX0_make 184 = .ok (.getfield 13, 3) := by decide +kernel
theorem dX0_make_187 : decode cX0_make 187 = .ok (.iload 5, 2) := by decide +kernel
theorem dX0_make_189 : decode cX0_make 189 = .ok (.saload, 1) := by decide +kernel
theorem dX0_make_190 : decode cX0_make 190 = .ok (.istore 12, 2) := by decide +kernel
theorem dX0_make_192 : decode cX0_make 192 = .ok (.sipush 256, 3) := by decide +kernel
theorem dX0_make_195 : decode cX0_make 195 = .ok (.istore 13, 2) := by decide +kernel
theorem dX0_make_197 : decode cX0_make 197 = .ok (.iload 6, 2) := by decide +kernel
theorem dX0_make_199 : decode cX0_make 199 = .ok (.iload 8, 2) := by decide +kernel
theorem dX0_make_201 : decode cX0_make 201 = .ok (.if_icmp .ge 29, 3) := by decide +kernel
theorem dX0_make_204 : decode cX0_make 204 = .ok (.iload 11, 2) := by decide +kernel
theorem dX0_make_206 : decode cX0_make 206 = .ok (.ifCond .eq 15, 3) := by decide +kernel
theorem dX0_make_209 : decode cX0_make 209 = .ok (.aload_n 0, 1) := by decide +kernel
theorem dX0_make_210 : decode cX0_make 210 = .ok (.getfield 17, 3) := by decide +kernel
theorem dX0_make_213 : decode cX0_make 213 = .ok (.iload 6, 2) := by decide +kernel
theorem dX0_make_215 : decode cX0_make 215 = .ok (.saload, 1) := by decide +kernel
theorem dX0_make_216 : decode cX0_make 216 = .ok (.iconst 1, 1) := by decide +kernel
theorem dX0_make_217 : decode cX0_make 217 = .ok (.iadd, 1) := by decide +kernel
theorem dX0_make_218 : decode cX0_make 218 = .ok (.goto 10, 3) := by decide +kernel
theorem dX0_make_221 : decode cX0_make 221 = .ok (.aload_n 0, 1) := by decide +kernel
theorem dX0_make_222 : decode cX0_make 222 = .ok (.getfield 13, 3) := by decide +kernel
theorem dX0_make_225 : decode cX0_make 225 = .ok (.iload 6, 2) := by decide +kernel
theorem dX0_make_227 : decode cX0_make 227 = .ok (.saload, 1) := by decide +kernel
theorem dX0_make_228 : decode cX0_make 228 = .ok (.istore 13, 2) := by decide +kernel
theorem dX0_make_230 : decode cX0_make 230 = .ok (.iload 13, 2) := by decide +kernel
theorem dX0_make_232 : decode cX0_make 232 = .ok (.iload 12, 2) := by decide +kernel
theorem dX0_make_234 : decode cX0_make 234 = .ok (.if_icmp .ge 7, 3) := by decide +kernel
theorem dX0_make_237 : decode cX0_make 237 = .ok (.iload 13, 2) := by decide +kernel
theorem dX0_make_239 : decode cX0_make 239 = .ok (.istore 12, 2) := by decide +kernel
theorem dX0_make_241 : decode cX0_make 241 = .ok (.iload_n 2, 1) := by decide +kernel
theorem dX0_make_242 : decode cX0_make 242 = .ok (.ifCond .ne 21, 3) := by decide +kernel
theorem dX0_make_245 : decode cX0_make 245 = .ok (.iload 10, 2) := by decide +kernel
theorem dX0_make_247 : decode cX0_make 247 = .ok (.ifCond .eq 12, 3) := by decide +kernel
theorem dX0_make_250 : decode cX0_make 250 = .ok (.iload 11, 2) := by decide +kernel
theorem dX0_make_252 : decode cX0_make 252 = .ok (.ifCond .eq 7, 3) := by decide +kernel
theorem dX0_make_255 : decode cX0_make 255 = .ok (.iconst 1, 1) := by decide +kernel
theorem dX0_make_256 : decode cX0_make 256 = .ok (.goto 45, 3) := by decide +kernel
theorem dX0_make_259 : decode cX0_make 259 = .ok (.iconst 0, 1) := by decide +kernel
theorem dX0_make_260 : decode cX0_make 260 = .ok (.goto 41, 3) := by decide +kernel
theorem dX0_make_263 : decode cX0_make 263 = .ok (.iload_n 2, 1) := by decide +kernel
theorem dX0_make_264 : decode cX0_make 264 = .ok (.iconst 1, 1) := by decide +kernel
theorem dX0_make_265 : decode cX0_make 265 = .ok (.if_icmp .ne 21, 3) := by decide +kernel
theorem dX0_make_268 : decode cX0_make 268 = .ok (.iload 10, 2) := by decide +kernel
theorem dX0_make_270 : decode cX0_make 270 = .ok (.ifCond .ne 8, 3) := by decide +kernel
theorem dX0_make_273 : decode cX0_make 273 = .ok (.iload 11, 2) := by decide +kernel
theorem dX0_make_275 : decode cX0_make 275 = .ok (.ifCond .eq 7, 3) := by decide +kernel
theorem dX0_make_278 : decode cX0_make 278 = .ok (.iconst 1, 1) := by decide +kernel
theorem dX0_make_279 : decode cX0_make 279 = .ok (.goto 22, 3) := by decide +kernel
theorem dX0_make_282 : decode cX0_make 282 = .ok (.iconst 0, 1) := by decide +kernel
theorem dX0_make_283 : decode cX0_make 283 = .ok (.goto 18, 3) := by decide +kernel
theorem dX0_make_286 : decode cX0_make 286 = .ok (.iload 10, 2) := by decide +kernel
theorem dX0_make_288 : decode cX0_make 288 = .ok (.ifCond .eq 12, 3) := by decide +kernel
theorem dX0_make_291 : decode cX0_make 291 = .ok (.iload 11, 2) := by decide +kernel
theorem dX0_make_293 : decode cX0_make 293 = .ok (.ifCond .ne 7, 3) := by decide +kernel
theorem dX0_make_296 : decode cX0_make 296 = .ok (.iconst 1, 1) := by decide +kernel
theorem dX0_make_297 : decode cX0_make 297 = .ok (.goto 4, 3) := by decide +kernel
theorem dX0_make_300 : decode cX0_make 300 = .ok (.iconst 0, 1) := by decide +kernel
theorem dX0_make_301 : decode cX0_make 301 = .ok (.istore 14, 2) := by decide +kernel
theorem dX0_make_303 : decode cX0_make 303 = .ok (.iload 14, 2) := by decide +kernel
theorem dX0_make_305 : decode cX0_make 305 = .ok (.ifCond .eq 13, 3) := by decide +kernel
theorem dX0_make_308 : decode cX0_make 308 = .ok (.aload_n 0, 1) := by decide +kernel
theorem dX0_make_309 : decode cX0_make 309 = .ok (.iload 9, 2) := by decide +kernel
theorem dX0_make_311 : decode cX0_make 311 = .ok (.iload 12, 2) := by decide +kernel
theorem dX0_make_313 : decode cX0_make 313 = .ok (.iconst 1, 1) := by decide +kernel
theorem dX0_make_314 : decode cX0_make 314 = .ok (.isub, 1) := by decide +kernel
theorem dX0_make_315 : decode cX0_make 315 = .ok (.invokevirtual 42, 3) := by decide +kernel
theorem dX0_make_318 : decode cX0_make 318 = .ok (.iload 12, 2) := by decide +kernel
theorem dX0_make_320 : decode cX0_make 320 = .ok (.istore 9, 2) := by decide +kernel
theorem dX0_make_322 : decode cX0_make 322 = .ok (.goto (-278), 3) := by decide +kernel
theorem dX0_make_325 : decode cX0_make 325 = .ok (.aload_n 0, 1) := by decide +kernel
theorem dX0_make_326 : decode cX0_make 326 = .ok (.getfield 38, 3) := by decide +kernel
theorem dX0_make_329 : decode cX0_make 329 = .ok (.bipush 40, 2) := by decide +kernel
theorem dX0_make_331 : decode cX0_make 331 = .ok (.if_icmp .le 6, 3) := by decide +kernel
theorem dX0_make_334 : decode cX0_make 334 = .ok (.bipush (-2), 2) := by decide +kernel
theorem dX0_make_336 : decode cX0_make 336 = .ok (.ireturn, 1) := by decide +kernel
theorem dX0_make_337 : decode cX0_make 337 = .ok (.iconst 0, 1) := by decide +kernel
theorem dX0_make_338 : decode cX0_make 338 = .ok (.istore 10, 2) := by decide +kernel
theorem dX0_make_340 : decode cX0_make 340 = .ok (.iload 10, 2) := by decide +kernel
theorem dX0_make_342 : decode cX0_make 342 = .ok (.aload_n 0, 1) := by decide +kernel
theorem dX0_make_343 : decode cX0_make 343 = .ok (.getfield 38, 3) := by decide +kernel
theorem dX0_make_346 : decode cX0_make 346 = .ok (.if_icmp .ge 47, 3) := by decide +kernel
theorem dX0_make_349 : decode cX0_make 349 = .ok (.aload_n 0, 1) := by decide +kernel
theorem dX0_make_350 : decode cX0_make 350 = .ok (.getfield 13, 3) := by decide +kernel
theorem dX0_make_353 : decode cX0_make 353 = .ok (.bipush 40, 2) := by decide +kernel
theorem dX0_make_355 : decode cX0_make 355 = .ok (.iload_n 1, 1) := by decide +kernel
theorem dX0_make_356 : decode cX0_make 356 = .ok (.imul, 1) := by decide +kernel
theorem dX0_make_357 : decode cX0_make 357 = .ok (.iload 10, 2) := by decide +kernel
theorem dX0_make_359 : decode cX0_make 359 = .ok (.iadd, 1) := by decide +kernel
theorem dX0_make_360 : decode cX0_make 360 = .ok (.aload_n 0, 1) := by decide +kernel
theorem dX0_make_361 : decode cX0_make 361 = .ok (.getfield 20, 3) := by decide +kernel
theorem dX0_make_364 : decode cX0_make 364 = .ok (.iload 10, 2) := by decide +kernel
theorem dX0_make_366 : decode cX0_make 366 = .ok (.saload, 1) := by decide +kernel
theorem dX0_make_367 : decode cX0_make 367 = .ok (.sastore, 1) := by decide +kernel
theorem dX0_make_368 : decode cX0_make 368 = .ok (.aload_n 0, 1) := by decide +kernel
theorem dX0_make_369 : decode cX0_make 369 = .ok (.getfield 17, 3) := by decide +kernel
theorem dX0_make_372 : decode cX0_make 372 = .ok (.bipush 40, 2) := by decide +kernel
theorem dX0_make_374 : decode cX0_make 374 = .ok (.iload_n 1, 1) := by decide +kernel
theorem dX0_make_375 : decode cX0_make 375 = .ok (.imul, 1) := by decide +kernel
theorem dX0_make_376 : decode cX0_make 376 = .ok (.iload 10, 2) := by decide +kernel
theorem dX0_make_378 : decode cX0_make 378 = .ok (.iadd, 1) := by decide +kernel
theorem dX0_make_379 : decode cX0_make 379 = .ok (.aload_n 0, 1) := by decide +kernel
theorem dX0_make_380 : decode cX0_make 380 = .ok (.getfield 23, 3) := by decide +kernel
theorem dX0_make_383 : decode cX0_make 383 = .ok (.iload 10, 2) := by decide +kernel
theorem dX0_make_385 : decode cX0_make 385 = .ok (.saload, 1) := by decide +kernel
theorem dX0_make_386 : decode cX0_make 386 = .ok (.sastore, 1) := by decide +kernel
theorem dX0_make_387 : decode cX0_make 387 = .ok (.iinc 10 1, 3) := by decide +kernel
theorem dX0_make_390 : decode cX0_make 390 = .ok (.goto (-50), 3) := by decide +kernel
theorem dX0_make_393 : decode cX0_make 393 = .ok (.aload_n 0, 1) := by decide +kernel
theorem dX0_make_394 : decode cX0_make 394 = .ok (.getfield 7, 3) := by decide +kernel
theorem dX0_make_397 : decode cX0_make 397 = .ok (.iload_n 1, 1) := by decide +kernel
theorem dX0_make_398 : decode cX0_make 398 = .ok (.aload_n 0, 1) := by decide +kernel
theorem dX0_make_399 : decode cX0_make 399 = .ok (.getfield 38, 3) := by decide +kernel
theorem dX0_make_402 : decode cX0_make 402 = .ok (.i2b, 1) := by decide +kernel
theorem dX0_make_403 : decode cX0_make 403 = .ok (.bastore, 1) := by decide +kernel
theorem dX0_make_404 : decode cX0_make 404 = .ok (.aload_n 0, 1) := by decide +kernel
theorem dX0_make_405 : decode cX0_make 405 = .ok (.iload_n 1, 1) := by decide +kernel
theorem dX0_make_406 : decode cX0_make 406 = .ok (.invokevirtual 46, 3) := by decide +kernel
theorem dX0_make_409 : decode cX0_make 409 = .ok (.ireturn, 1) := by decide +kernel
abbrev cX0_append : ByteArray := prog_1_method_6_code
def yX0_append : MethodName := ⟨RX0, "append", "(II)V"⟩
theorem dX0_append_0 : decode cX0_append 0 = .ok (.aload_n 0, 1) := by decide +kernel
theorem dX0_append_1 : decode cX0_append 1 = .ok (.getfield 38, 3) := by decide +kernel
theorem dX0_append_4 : decode cX0_append 4 = .ok (.ifCond .le 34, 3) := by decide +kernel
theorem dX0_append_7 : decode cX0_append 7 = .ok (.aload_n 0, 1) := by decide +kernel
theorem dX0_append_8 : decode cX0_append 8 = .ok (.getfield 23, 3) := by decide +kernel
theorem dX0_append_11 : decode cX0_append 11 = .ok (.aload_n 0, 1) := by decide +kernel
theorem dX0_append_12 : decode cX0_append 12 = .ok (.getfield 38, 3) := by decide +kernel
theorem dX0_append_15 : decode cX0_append 15 = .ok (.iconst 1, 1) := by decide +kernel
theorem dX0_append_16 : decode cX0_append 16 = .ok (.isub, 1) := by decide +kernel
theorem dX0_append_17 : decode cX0_append 17 = .ok (.saload, 1) := by decide +kernel
theorem dX0_append_18 : decode cX0_append 18 = .ok (.iload_n 1, 1) := by decide +kernel
theorem dX0_append_19 : decode cX0_append 19 = .ok (.iconst 1, 1) := by decide +kernel
theorem dX0_append_20 : decode cX0_append 20 = .ok (.isub, 1) := by decide +kernel
theorem dX0_append_21 : decode cX0_append 21 = .ok (.if_icmp .ne 17, 3) := by decide +kernel
theorem dX0_append_24 : decode cX0_append 24 = .ok (.aload_n 0, 1) := by decide +kernel
theorem dX0_append_25 : decode cX0_append 25 = .ok (.getfield 23, 3) := by decide +kernel
theorem dX0_append_28 : decode cX0_append 28 = .ok (.aload_n 0, 1) := by decide +kernel
theorem dX0_append_29 : decode cX0_append 29 = .ok (.getfield 38, 3) := by decide +kernel
theorem dX0_append_32 : decode cX0_append 32 = .ok (.iconst 1, 1) := by decide +kernel
theorem dX0_append_33 : decode cX0_append 33 = .ok (.isub, 1) := by decide +kernel
theorem dX0_append_34 : decode cX0_append 34 = .ok (.iload_n 2, 1) := by decide +kernel
theorem dX0_append_35 : decode cX0_append 35 = .ok (.i2s, 1) := by decide +kernel
theorem dX0_append_36 : decode cX0_append 36 = .ok (.sastore, 1) := by decide +kernel
theorem dX0_append_37 : decode cX0_append 37 = .ok (.return_, 1) := by decide +kernel
theorem dX0_append_38 : decode cX0_append 38 = .ok (.aload_n 0, 1) := by decide +kernel
theorem dX0_append_39 : decode cX0_append 39 = .ok (.getfield 20, 3) := by decide +kernel
theorem dX0_append_42 : decode cX0_append 42 = .ok (.aload_n 0, 1) := by decide +kernel
theorem dX0_append_43 : decode cX0_append 43 = .ok (.getfield 38, 3) := by decide +kernel
theorem dX0_append_46 : decode cX0_append 46 = .ok (.iload_n 1, 1) := by decide +kernel
theorem dX0_append_47 : decode cX0_append 47 = .ok (.i2s, 1) := by decide +kernel
theorem dX0_append_48 : decode cX0_append 48 = .ok (.sastore, 1) := by decide +kernel
theorem dX0_append_49 : decode cX0_append 49 = .ok (.aload_n 0, 1) := by decide +kernel
theorem dX0_append_50 : decode cX0_append 50 = .ok (.getfield 23, 3) := by decide +kernel
theorem dX0_append_53 : decode cX0_append 53 = .ok (.aload_n 0, 1) := by decide +kernel
theorem dX0_append_54 : decode cX0_append 54 = .ok (.getfield 38, 3) := by decide +kernel
theorem dX0_append_57 : decode cX0_append 57 = .ok (.iload_n 2, 1) := by decide +kernel
theorem dX0_append_58 : decode cX0_append 58 = .ok (.i2s, 1) := by decide +kernel
theorem dX0_append_59 : decode cX0_append 59 = .ok (.sastore, 1) := by decide +kernel
theorem dX0_append_60 : decode cX0_append 60 = .ok (.aload_n 0, 1) := by decide +kernel
theorem dX0_append_61 : decode cX0_append 61 = .ok (.dup, 1) := by decide +kernel
theorem dX0_append_62 : decode cX0_append 62 = .ok (.getfield 38, 3) := by decide +kernel
theorem dX0_append_65 : decode cX0_append 65 = .ok (.iconst 1, 1) := by decide +kernel
theorem dX0_append_66 : decode cX0_append 66 = .ok (.iadd, 1) := by decide +kernel
theorem dX0_append_67 : decode cX0_append 67 = .ok (.putfield 38, 3) := by decide +kernel
theorem dX0_append_70 : decode cX0_append 70 = .ok (.return_, 1) := by decide +kernel
abbrev cX0_cells : ByteArray := prog_1_method_8_code
def yX0_cells : MethodName := ⟨RX0, "cells", "(I)I"⟩
theorem dX0_cells_0 : decode cX0_cells 0 = .ok (.aload_n 0, 1) := by decide +kernel
theorem dX0_cells_1 : decode cX0_cells 1 = .ok (.iload_n 1, 1) := by decide +kernel
theorem dX0_cells_2 : decode cX0_cells 2 = .ok (.invokevirtual 26, 3) := by decide +kernel
theorem dX0_cells_5 : decode cX0_cells 5 = .ok (.ifCond .ne 5, 3) := by decide +kernel
theorem dX0_cells_8 : decode cX0_cells 8 = .ok (.iconst (-1), 1) := by decide +kernel
theorem dX0_cells_9 : decode cX0_cells 9 = .ok (.ireturn, 1) := by decide +kernel
theorem dX0_cells_10 : decode cX0_cells 10 = .ok (.iconst 0, 1) := by decide +kernel
theorem dX0_cells_11 : decode cX0_cells 11 = .ok (.istore_n 2, 1) := by decide +kernel
theorem dX0_cells_12 : decode cX0_cells 12 = .ok (.bipush 40, 2) := by decide +kernel
theorem dX0_cells_14 : decode cX0_cells 14 = .ok (.iload_n 1, 1) := by decide +kernel
theorem dX0_cells_15 : decode cX0_cells 15 = .ok (.imul, 1) := by decide +kernel
theorem dX0_cells_16 : decode cX0_cells 16 = .ok (.istore_n 3, 1) := by decide +kernel
theorem dX0_cells_17 : decode cX0_cells 17 = .ok (.iload_n 3, 1) := by decide +kernel
theorem dX0_cells_18 : decode cX0_cells 18 = .ok (.bipush 40, 2) := by decide +kernel
theorem dX0_cells_20 : decode cX0_cells 20 = .ok (.iload_n 1, 1) := by decide +kernel
theorem dX0_cells_21 : decode cX0_cells 21 = .ok (.imul, 1) := by decide +kernel
theorem dX0_cells_22 : decode cX0_cells 22 = .ok (.aload_n 0, 1) := by decide +kernel
theorem dX0_cells_23 : decode cX0_cells 23 = .ok (.getfield 7, 3) := by decide +kernel
theorem dX0_cells_26 : decode cX0_cells 26 = .ok (.iload_n 1, 1) := by decide +kernel
theorem dX0_cells_27 : decode cX0_cells 27 = .ok (.baload, 1) := by decide +kernel
theorem dX0_cells_28 : decode cX0_cells 28 = .ok (.iadd, 1) := by decide +kernel
theorem dX0_cells_29 : decode cX0_cells 29 = .ok (.if_icmp .ge 27, 3) := by decide +kernel
theorem dX0_cells_32 : decode cX0_cells 32 = .ok (.iload_n 2, 1) := by decide +kernel
theorem dX0_cells_33 : decode cX0_cells 33 = .ok (.aload_n 0, 1) := by decide +kernel
theorem dX0_cells_34 : decode cX0_cells 34 = .ok (.getfield 17, 3) := by decide +kernel
theorem dX0_cells_37 : decode cX0_cells 37 = .ok (.iload_n 3, 1) := by decide +kernel
theorem dX0_cells_38 : decode cX0_cells 38 = .ok (.saload, 1) := by decide +kernel
theorem dX0_cells_39 : decode cX0_cells 39 = .ok (.aload_n 0, 1) := by decide +kernel
theorem dX0_cells_40 : decode cX0_cells 40 = .ok (.getfield 13, 3) := by decide +kernel
theorem dX0_cells_43 : decode cX0_cells 43 = .ok (.iload_n 3, 1) := by decide +kernel
theorem dX0_cells_44 : decode cX0_cells 44 = .ok (.saload, 1) := by decide +kernel
theorem dX0_cells_45 : decode cX0_cells 45 = .ok (.isub, 1) := by decide +kernel
theorem dX0_cells_46 : decode cX0_cells 46 = .ok (.iconst 1, 1) := by decide +kernel
theorem dX0_cells_47 : decode cX0_cells 47 = .ok (.iadd, 1) := by decide +kernel
theorem dX0_cells_48 : decode cX0_cells 48 = .ok (.iadd, 1) := by decide +kernel
theorem dX0_cells_49 : decode cX0_cells 49 = .ok (.istore_n 2, 1) := by decide +kernel
theorem dX0_cells_50 : decode cX0_cells 50 = .ok (.iinc 3 1, 3) := by decide +kernel
theorem dX0_cells_53 : decode cX0_cells 53 = .ok (.goto (-36), 3) := by decide +kernel
theorem dX0_cells_56 : decode cX0_cells 56 = .ok (.iload_n 2, 1) := by decide +kernel
theorem dX0_cells_57 : decode cX0_cells 57 = .ok (.ireturn, 1) := by decide +kernel
abbrev cX0_combine : ByteArray := prog_1_method_3_code
def yX0_combine : MethodName := ⟨RX0, "combine", "(IIII)I"⟩
theorem dX0_combine_0 : decode cX0_combine 0 = .ok (.aload_n 0, 1) := by decide +kernel
theorem dX0_combine_1 : decode cX0_combine 1 = .ok (.iload_n 1, 1) := by decide +kernel
theorem dX0_combine_2 : decode cX0_combine 2 = .ok (.invokevirtual 26, 3) := by decide +kernel
theorem dX0_combine_5 : decode cX0_combine 5 = .ok (.ifCond .eq 29, 3) := by decide +kernel
theorem dX0_combine_8 : decode cX0_combine 8 = .ok (.aload_n 0, 1) := by decide +kernel
theorem dX0_combine_9 : decode cX0_combine 9 = .ok (.iload_n 3, 1) := by decide +kernel
theorem dX0_combine_10 : decode cX0_combine 10 = .ok (.invokevirtual 26, 3) := by decide +kernel
theorem dX0_combine_13 : decode cX0_combine 13 = .ok (.ifCond .eq 21, 3) := by decide +kernel
theorem dX0_combine_16 : decode cX0_combine 16 = .ok (.aload_n 0, 1) := by decide +kernel
theorem dX0_combine_17 : decode cX0_combine 17 = .ok (.iload 4, 2) := by decide +kernel
theorem dX0_combine_19 : decode cX0_combine 19 = .ok (.invokevirtual 26, 3) := by decide +kernel
theorem dX0_combine_22 : decode cX0_combine 22 = .ok (.ifCond .eq 12, 3) := by decide +kernel
theorem dX0_combine_25 : decode cX0_combine 25 = .ok (.iload_n 2, 1) := by decide +kernel
theorem dX0_combine_26 : decode cX0_combine 26 = .ok (.ifCond .lt 8, 3) := by decide +kernel
theorem dX0_combine_29 : decode cX0_combine 29 = .ok (.iload_n 2, 1) := by decide +kernel
theorem dX0_combine_30 : decode cX0_combine 30 = .ok (.iconst 2, 1) := by decide +kernel
theorem dX0_combine_31 : decode cX0_combine 31 = .ok (.if_icmp .le 5, 3) := by decide +kernel
theorem dX0_combine_34 : decode cX0_combine 34 = .ok (.iconst (-1), 1) := by decide +kernel
theorem dX0_combine_35 : decode cX0_combine 35 = .ok (.ireturn, 1) := by decide +kernel
theorem dX0_combine_36 : decode cX0_combine 36 = .ok (.aload_n 0, 1) := by decide +kernel
theorem dX0_combine_37 : decode cX0_combine 37 = .ok (.iload_n 1, 1) := by decide +kernel
theorem dX0_combine_38 : decode cX0_combine 38 = .ok (.iload_n 2, 1) := by decide +kernel
theorem dX0_combine_39 : decode cX0_combine 39 = .ok (.iload_n 3, 1) := by decide +kernel
theorem dX0_combine_40 : decode cX0_combine 40 = .ok (.iload 4, 2) := by decide +kernel
theorem dX0_combine_42 : decode cX0_combine 42 = .ok (.invokevirtual 34, 3) := by decide +kernel
theorem dX0_combine_45 : decode cX0_combine 45 = .ok (.ireturn, 1) := by decide +kernel
abbrev cX0_has : ByteArray := prog_1_method_7_code
def yX0_has : MethodName := ⟨RX0, "has", "(III)Z"⟩
theorem dX0_has_0 : decode cX0_has 0 = .ok (.aload_n 0, 1) := by decide +kernel
theorem dX0_has_1 : decode cX0_has 1 = .ok (.iload_n 1, 1) := by decide +kernel
theorem dX0_has_2 : decode cX0_has 2 = .ok (.invokevirtual 26, 3) := by decide +kernel
theorem dX0_has_5 : decode cX0_has 5 = .ok (.ifCond .eq 12, 3) := by decide +kernel
theorem dX0_has_8 : decode cX0_has 8 = .ok (.aload_n 0, 1) := by decide +kernel
theorem dX0_has_9 : decode cX0_has 9 = .ok (.iload_n 2, 1) := by decide +kernel
theorem dX0_has_10 : decode cX0_has 10 = .ok (.iload_n 3, 1) := by decide +kernel
theorem dX0_has_11 : decode cX0_has 11 = .ok (.invokevirtual 50, 3) := by decide +kernel
theorem dX0_has_14 : decode cX0_has 14 = .ok (.ifCond .ne 5, 3) := by decide +kernel
theorem dX0_has_17 : decode cX0_has 17 = .ok (.iconst 0, 1) := by decide +kernel
theorem dX0_has_18 : decode cX0_has 18 = .ok (.ireturn, 1) := by decide +kernel
theorem dX0_has_19 : decode cX0_has 19 = .ok (.aload_n 0, 1) := by decide +kernel
theorem dX0_has_20 : decode cX0_has 20 = .ok (.iload_n 2, 1) := by decide +kernel
theorem dX0_has_21 : decode cX0_has 21 = .ok (.iload_n 3, 1) := by decide +kernel
theorem dX0_has_22 : decode cX0_has 22 = .ok (.invokevirtual 30, 3) := by decide +kernel
theorem dX0_has_25 : decode cX0_has 25 = .ok (.istore 4, 2) := by decide +kernel
theorem dX0_has_27 : decode cX0_has 27 = .ok (.bipush 40, 2) := by decide +kernel
theorem dX0_has_29 : decode cX0_has 29 = .ok (.iload_n 1, 1) := by decide +kernel
theorem dX0_has_30 : decode cX0_has 30 = .ok (.imul, 1) := by decide +kernel
theorem dX0_has_31 : decode cX0_has 31 = .ok (.istore 5, 2) := by decide +kernel
theorem dX0_has_33 : decode cX0_has 33 = .ok (.iload 5, 2) := by decide +kernel
theorem dX0_has_35 : decode cX0_has 35 = .ok (.aload_n 0, 1) := by decide +kernel
theorem dX0_has_36 : decode cX0_has 36 = .ok (.getfield 7, 3) := by decide +kernel
theorem dX0_has_39 : decode cX0_has 39 = .ok (.iload_n 1, 1) := by decide +kernel
theorem dX0_has_40 : decode cX0_has 40 = .ok (.baload, 1) := by decide +kernel
theorem dX0_has_41 : decode cX0_has 41 = .ok (.iadd, 1) := by decide +kernel
theorem dX0_has_42 : decode cX0_has 42 = .ok (.istore 6, 2) := by decide +kernel
theorem dX0_has_44 : decode cX0_has 44 = .ok (.iload 5, 2) := by decide +kernel
theorem dX0_has_46 : decode cX0_has 46 = .ok (.iload 6, 2) := by decide +kernel
theorem dX0_has_48 : decode cX0_has 48 = .ok (.if_icmp .ge 40, 3) := by decide +kernel
theorem dX0_has_51 : decode cX0_has 51 = .ok (.iload 5, 2) := by decide +kernel
theorem dX0_has_53 : decode cX0_has 53 = .ok (.iload 6, 2) := by decide +kernel
theorem dX0_has_55 : decode cX0_has 55 = .ok (.iadd, 1) := by decide +kernel
theorem dX0_has_56 : decode cX0_has 56 = .ok (.iconst 2, 1) := by decide +kernel
theorem dX0_has_57 : decode cX0_has 57 = .ok (.idiv, 1) := by decide +kernel
theorem dX0_has_58 : decode cX0_has 58 = .ok (.istore 7, 2) := by decide +kernel
theorem dX0_has_60 : decode cX0_has 60 = .ok (.aload_n 0, 1) := by decide +kernel
theorem dX0_has_61 : decode cX0_has 61 = .ok (.getfield 17, 3) := by decide +kernel
theorem dX0_has_64 : decode cX0_has 64 = .ok (.iload 7, 2) := by decide +kernel
theorem dX0_has_66 : decode cX0_has 66 = .ok (.saload, 1) := by decide +kernel
theorem dX0_has_67 : decode cX0_has 67 = .ok (.iload 4, 2) := by decide +kernel
theorem dX0_has_69 : decode cX0_has 69 = .ok (.if_icmp .ge 12, 3) := by decide +kernel
theorem dX0_has_72 : decode cX0_has 72 = .ok (.iload 7, 2) := by decide +kernel
theorem dX0_has_74 : decode cX0_has 74 = .ok (.iconst 1, 1) := by decide +kernel
theorem dX0_has_75 : decode cX0_has 75 = .ok (.iadd, 1) := by decide +kernel
theorem dX0_has_76 : decode cX0_has 76 = .ok (.istore 5, 2) := by decide +kernel
theorem dX0_has_78 : decode cX0_has 78 = .ok (.goto 7, 3) := by decide +kernel
theorem dX0_has_81 : decode cX0_has 81 = .ok (.iload 7, 2) := by decide +kernel
theorem dX0_has_83 : decode cX0_has 83 = .ok (.istore 6, 2) := by decide +kernel
theorem dX0_has_85 : decode cX0_has 85 = .ok (.goto (-41), 3) := by decide +kernel
theorem dX0_has_88 : decode cX0_has 88 = .ok (.iload 5, 2) := by decide +kernel
theorem dX0_has_90 : decode cX0_has 90 = .ok (.bipush 40, 2) := by decide +kernel
theorem dX0_has_92 : decode cX0_has 92 = .ok (.iload_n 1, 1) := by decide +kernel
theorem dX0_has_93 : decode cX0_has 93 = .ok (.imul, 1) := by decide +kernel
theorem dX0_has_94 : decode cX0_has 94 = .ok (.aload_n 0, 1) := by decide +kernel
theorem dX0_has_95 : decode cX0_has 95 = .ok (.getfield 7, 3) := by decide +kernel
theorem dX0_has_98 : decode cX0_has 98 = .ok (.iload_n 1, 1) := by decide +kernel
theorem dX0_has_99 : decode cX0_has 99 = .ok (.baload, 1) := by decide +kernel
theorem dX0_has_100 : decode cX0_has 100 = .ok (.iadd, 1) := by decide +kernel
theorem dX0_has_101 : decode cX0_has 101 = .ok (.if_icmp .ge 19, 3) := by decide +kernel
theorem dX0_has_104 : decode cX0_has 104 = .ok (.aload_n 0, 1) := by decide +kernel
theorem dX0_has_105 : decode cX0_has 105 = .ok (.getfield 13, 3) := by decide +kernel
theorem dX0_has_108 : decode cX0_has 108 = .ok (.iload 5, 2) := by decide +kernel
theorem dX0_has_110 : decode cX0_has 110 = .ok (.saload, 1) := by decide +kernel
theorem dX0_has_111 : decode cX0_has 111 = .ok (.iload 4, 2) := by decide +kernel
theorem dX0_has_113 : decode cX0_has 113 = .ok (.if_icmp .gt 7, 3) := by decide +kernel
theorem dX0_has_116 : decode cX0_has 116 = .ok (.iconst 1, 1) := by decide +kernel
theorem dX0_has_117 : decode cX0_has 117 = .ok (.goto 4, 3) := by decide +kernel
theorem dX0_has_120 : decode cX0_has 120 = .ok (.iconst 0, 1) := by decide +kernel
theorem dX0_has_121 : decode cX0_has 121 = .ok (.ireturn, 1) := by decide +kernel
abbrev cX0_isCell : ByteArray := prog_1_method_16_code
def yX0_isCell : MethodName := ⟨RX0, "isCell", "(II)Z"⟩
theorem dX0_isCell_0 : decode cX0_isCell 0 = .ok (.iload_n 1, 1) := by decide +kernel
theorem dX0_isCell_1 : decode cX0_isCell 1 = .ok (.ifCond .lt 23, 3) := by decide +kernel
theorem dX0_isCell_4 : decode cX0_isCell 4 = .ok (.iload_n 1, 1) := by decide +kernel
theorem dX0_isCell_5 : decode cX0_isCell 5 = .ok (.bipush 15, 2) := by decide +kernel
theorem dX0_isCell_7 : decode cX0_isCell 7 = .ok (.if_icmp .gt 17, 3) := by decide +kernel
theorem dX0_isCell_10 : decode cX0_isCell 10 = .ok (.iload_n 2, 1) := by decide +kernel
theorem dX0_isCell_11 : decode cX0_isCell 11 = .ok (.ifCond .lt 13, 3) := by decide +kernel
theorem dX0_isCell_14 : decode cX0_isCell 14 = .ok (.iload_n 2, 1) := by decide +kernel
theorem dX0_isCell_15 : decode cX0_isCell 15 = .ok (.bipush 15, 2) := by decide +kernel
theorem dX0_isCell_17 : decode cX0_isCell 17 = .ok (.if_icmp .gt 7, 3) := by decide +kernel
theorem dX0_isCell_20 : decode cX0_isCell 20 = .ok (.iconst 1, 1) := by decide +kernel
theorem dX0_isCell_21 : decode cX0_isCell 21 = .ok (.goto 4, 3) := by decide +kernel
theorem dX0_isCell_24 : decode cX0_isCell 24 = .ok (.iconst 0, 1) := by decide +kernel
theorem dX0_isCell_25 : decode cX0_isCell 25 = .ok (.ireturn, 1) := by decide +kernel
abbrev cX0_stretches : ByteArray := prog_1_method_9_code
def yX0_stretches : MethodName := ⟨RX0, "stretches", "(I)I"⟩
theorem dX0_stretches_0 : decode cX0_stretches 0 = .ok (.aload_n 0, 1) := by decide +kernel
theorem dX0_stretches_1 : decode cX0_stretches 1 = .ok (.iload_n 1, 1) := by decide +kernel
theorem dX0_stretches_2 : decode cX0_stretches 2 = .ok (.invokevirtual 26, 3) := by decide +kernel
theorem dX0_stretches_5 : decode cX0_stretches 5 = .ok (.ifCond .eq 12, 3) := by decide +kernel
theorem dX0_stretches_8 : decode cX0_stretches 8 = .ok (.aload_n 0, 1) := by decide +kernel
theorem dX0_stretches_9 : decode cX0_stretches 9 = .ok (.getfield 7, 3) := by decide +kernel
theorem dX0_stretches_12 : decode cX0_stretches 12 = .ok (.iload_n 1, 1) := by decide +kernel
theorem dX0_stretches_13 : decode cX0_stretches 13 = .ok (.baload, 1) := by decide +kernel
theorem dX0_stretches_14 : decode cX0_stretches 14 = .ok (.goto 4, 3) := by decide +kernel
theorem dX0_stretches_17 : decode cX0_stretches 17 = .ok (.iconst (-1), 1) := by decide +kernel
theorem dX0_stretches_18 : decode cX0_stretches 18 = .ok (.ireturn, 1) := by decide +kernel
abbrev cX0_pieces : ByteArray := prog_1_method_10_code
def yX0_pieces : MethodName := ⟨RX0, "pieces", "(I)I"⟩
theorem dX0_pieces_0 : decode cX0_pieces 0 = .ok (.aload_n 0, 1) := by decide +kernel
theorem dX0_pieces_1 : decode cX0_pieces 1 = .ok (.iload_n 1, 1) := by decide +kernel
theorem dX0_pieces_2 : decode cX0_pieces 2 = .ok (.invokevirtual 26, 3) := by decide +kernel
theorem dX0_pieces_5 : decode cX0_pieces 5 = .ok (.ifCond .ne 5, 3) := by decide +kernel
theorem dX0_pieces_8 : decode cX0_pieces 8 = .ok (.iconst (-1), 1) := by decide +kernel
theorem dX0_pieces_9 : decode cX0_pieces 9 = .ok (.ireturn, 1) := by decide +kernel
theorem dX0_pieces_10 : decode cX0_pieces 10 = .ok (.iconst 0, 1) := by decide +kernel
theorem dX0_pieces_11 : decode cX0_pieces 11 = .ok (.istore_n 2, 1) := by decide +kernel
theorem dX0_pieces_12 : decode cX0_pieces 12 = .ok (.bipush 40, 2) := by decide +kernel
theorem dX0_pieces_14 : decode cX0_pieces 14 = .ok (.iload_n 1, 1) := by decide +kernel
theorem dX0_pieces_15 : decode cX0_pieces 15 = .ok (.imul, 1) := by decide +kernel
theorem dX0_pieces_16 : decode cX0_pieces 16 = .ok (.istore_n 3, 1) := by decide +kernel
theorem dX0_pieces_17 : decode cX0_pieces 17 = .ok (.iload_n 3, 1) := by decide +kernel
theorem dX0_pieces_18 : decode cX0_pieces 18 = .ok (.bipush 40, 2) := by decide +kernel
theorem dX0_pieces_20 : decode cX0_pieces 20 = .ok (.iload_n 1, 1) := by decide +kernel
theorem dX0_pieces_21 : decode cX0_pieces 21 = .ok (.imul, 1) := by decide +kernel
theorem dX0_pieces_22 : decode cX0_pieces 22 = .ok (.aload_n 0, 1) := by decide +kernel
theorem dX0_pieces_23 : decode cX0_pieces 23 = .ok (.getfield 7, 3) := by decide +kernel
theorem dX0_pieces_26 : decode cX0_pieces 26 = .ok (.iload_n 1, 1) := by decide +kernel
theorem dX0_pieces_27 : decode cX0_pieces 27 = .ok (.baload, 1) := by decide +kernel
theorem dX0_pieces_28 : decode cX0_pieces 28 = .ok (.iadd, 1) := by decide +kernel
theorem dX0_pieces_29 : decode cX0_pieces 29 = .ok (.if_icmp .ge 51, 3) := by decide +kernel
theorem dX0_pieces_32 : decode cX0_pieces 32 = .ok (.aload_n 0, 1) := by decide +kernel
theorem dX0_pieces_33 : decode cX0_pieces 33 = .ok (.getfield 13, 3) := by decide +kernel
theorem dX0_pieces_36 : decode cX0_pieces 36 = .ok (.iload_n 3, 1) := by decide +kernel
theorem dX0_pieces_37 : decode cX0_pieces 37 = .ok (.saload, 1) := by decide +kernel
theorem dX0_pieces_38 : decode cX0_pieces 38 = .ok (.istore 4, 2) := by decide +kernel
theorem dX0_pieces_40 : decode cX0_pieces 40 = .ok (.iload 4, 2) := by decide +kernel
theorem dX0_pieces_42 : decode cX0_pieces 42 = .ok (.aload_n 0, 1) := by decide +kernel
theorem dX0_pieces_43 : decode cX0_pieces 43 = .ok (.getfield 17, 3) := by decide +kernel
theorem dX0_pieces_46 : decode cX0_pieces 46 = .ok (.iload_n 3, 1) := by decide +kernel
theorem dX0_pieces_47 : decode cX0_pieces 47 = .ok (.saload, 1) := by decide +kernel
theorem dX0_pieces_48 : decode cX0_pieces 48 = .ok (.if_icmp .gt 26, 3) := by decide +kernel
theorem dX0_pieces_51 : decode cX0_pieces 51 = .ok (.iload 4, 2) := by decide +kernel
theorem dX0_pieces_53 : decode cX0_pieces 53 = .ok (.aload_n 0, 1) := by decide +kernel
theorem dX0_pieces_54 : decode cX0_pieces 54 = .ok (.iload 4, 2) := by decide +kernel
theorem dX0_pieces_56 : decode cX0_pieces 56 = .ok (.aload_n 0, 1) := by decide +kernel
theorem dX0_pieces_57 : decode cX0_pieces 57 = .ok (.getfield 17, 3) := by decide +kernel
theorem dX0_pieces_60 : decode cX0_pieces 60 = .ok (.iload_n 3, 1) := by decide +kernel
theorem dX0_pieces_61 : decode cX0_pieces 61 = .ok (.saload, 1) := by decide +kernel
theorem dX0_pieces_62 : decode cX0_pieces 62 = .ok (.invokevirtual 54, 3) := by decide +kernel
theorem dX0_pieces_65 : decode cX0_pieces 65 = .ok (.iadd, 1) := by decide +kernel
theorem dX0_pieces_66 : decode cX0_pieces 66 = .ok (.istore 4, 2) := by decide +kernel
theorem dX0_pieces_68 : decode cX0_pieces 68 = .ok (.iinc 2 1, 3) := by decide +kernel
theorem dX0_pieces_71 : decode cX0_pieces 71 = .ok (.goto (-31), 3) := by decide +kernel
theorem dX0_pieces_74 : decode cX0_pieces 74 = .ok (.iinc 3 1, 3) := by decide +kernel
theorem dX0_pieces_77 : decode cX0_pieces 77 = .ok (.goto (-60), 3) := by decide +kernel
theorem dX0_pieces_80 : decode cX0_pieces 80 = .ok (.iload_n 2, 1) := by decide +kernel
theorem dX0_pieces_81 : decode cX0_pieces 81 = .ok (.ireturn, 1) := by decide +kernel
abbrev cX0_largestAt : ByteArray := prog_1_method_17_code
def yX0_largestAt : MethodName := ⟨RX0, "largestAt", "(II)I"⟩
theorem dX0_largestAt_0 : decode cX0_largestAt 0 = .ok (.iconst 1, 1) := by decide +kernel
theorem dX0_largestAt_1 : decode cX0_largestAt 1 = .ok (.istore_n 3, 1) := by decide +kernel
theorem dX0_largestAt_2 : decode cX0_largestAt 2 = .ok (.iload_n 3, 1) := by decide +kernel
theorem dX0_largestAt_3 : decode cX0_largestAt 3 = .ok (.sipush 256, 3) := by decide +kernel
theorem dX0_largestAt_6 : decode cX0_largestAt 6 = .ok (.if_icmp .ge 29, 3) := by decide +kernel
theorem dX0_largestAt_9 : decode cX0_largestAt 9 = .ok (.iload_n 1, 1) := by decide +kernel
theorem dX0_largestAt_10 : decode cX0_largestAt 10 = .ok (.iconst 4, 1) := by decide +kernel
theorem dX0_largestAt_11 : decode cX0_largestAt 11 = .ok (.iload_n 3, 1) := by decide +kernel
theorem dX0_largestAt_12 : decode cX0_largestAt 12 = .ok (.imul, 1) := by decide +kernel
theorem dX0_largestAt_13 : decode cX0_largestAt 13 = .ok (.irem, 1) := by decide +kernel
theorem dX0_largestAt_14 : decode cX0_largestAt 14 = .ok (.ifCond .ne 21, 3) := by decide +kernel
theorem dX0_largestAt_17 : decode cX0_largestAt 17 = .ok (.iload_n 1, 1) := by decide +kernel
theorem dX0_largestAt_18 : decode cX0_largestAt 18 = .ok (.iconst 4, 1) := by decide +kernel
theorem dX0_largestAt_19 : decode cX0_largestAt 19 = .ok (.iload_n 3, 1) := by decide +kernel
theorem dX0_largestAt_20 : decode cX0_largestAt 20 = .ok (.imul, 1) := by decide +kernel
theorem dX0_largestAt_21 : decode cX0_largestAt 21 = .ok (.iadd, 1) := by decide +kernel
theorem dX0_largestAt_22 : decode cX0_largestAt 22 = .ok (.iconst 1, 1) := by decide +kernel
theorem dX0_largestAt_23 : decode cX0_largestAt 23 = .ok (.isub, 1) := by decide +kernel
theorem dX0_largestAt_24 : decode cX0_largestAt 24 = .ok (.iload_n 2, 1) := by decide +kernel
theorem dX0_largestAt_25 : decode cX0_largestAt 25 = .ok (.if_icmp .gt 10, 3) := by decide +kernel
theorem dX0_largestAt_28 : decode cX0_largestAt 28 = .ok (.iload_n 3, 1) := by decide +kernel
theorem dX0_largestAt_29 : decode cX0_largestAt 29 = .ok (.iconst 4, 1) := by decide +kernel
theorem dX0_largestAt_30 : decode cX0_largestAt 30 = .ok (.imul, 1) := by decide +kernel
theorem dX0_largestAt_31 : decode cX0_largestAt 31 = .ok (.istore_n 3, 1) := by decide +kernel
theorem dX0_largestAt_32 : decode cX0_largestAt 32 = .ok (.goto (-30), 3) := by decide +kernel
theorem dX0_largestAt_35 : decode cX0_largestAt 35 = .ok (.iload_n 3, 1) := by decide +kernel
theorem dX0_largestAt_36 : decode cX0_largestAt 36 = .ok (.ireturn, 1) := by decide +kernel
abbrev cX0_piece : ByteArray := prog_1_method_11_code
def yX0_piece : MethodName := ⟨RX0, "piece", "(II)I"⟩
theorem dX0_piece_0 : decode cX0_piece 0 = .ok (.aload_n 0, 1) := by decide +kernel
theorem dX0_piece_1 : decode cX0_piece 1 = .ok (.iload_n 1, 1) := by decide +kernel
theorem dX0_piece_2 : decode cX0_piece 2 = .ok (.invokevirtual 26, 3) := by decide +kernel
theorem dX0_piece_5 : decode cX0_piece 5 = .ok (.ifCond .ne 5, 3) := by decide +kernel
theorem dX0_piece_8 : decode cX0_piece 8 = .ok (.iconst (-1), 1) := by decide +kernel
theorem dX0_piece_9 : decode cX0_piece 9 = .ok (.ireturn, 1) := by decide +kernel
theorem dX0_piece_10 : decode cX0_piece 10 = .ok (.iload_n 2, 1) := by decide +kernel
theorem dX0_piece_11 : decode cX0_piece 11 = .ok (.istore_n 3, 1) := by decide +kernel
theorem dX0_piece_12 : decode cX0_piece 12 = .ok (.bipush 40, 2) := by decide +kernel
theorem dX0_piece_14 : decode cX0_piece 14 = .ok (.iload_n 1, 1) := by decide +kernel
theorem dX0_piece_15 : decode cX0_piece 15 = .ok (.imul, 1) := by decide +kernel
theorem dX0_piece_16 : decode cX0_piece 16 = .ok (.istore 4, 2) := by decide +kernel
theorem dX0_piece_18 : decode cX0_piece 18 = .ok (.iload 4, 2) := by decide +kernel
theorem dX0_piece_20 : decode cX0_piece 20 = .ok (.bipush 40, 2) := by decide +kernel
theorem dX0_piece_22 : decode cX0_piece 22 = .ok (.iload_n 1, 1) := by decide +kernel
theorem dX0_piece_23 : decode cX0_piece 23 = .ok (.imul, 1) := by decide +kernel
theorem dX0_piece_24 : decode cX0_piece 24 = .ok (.aload_n 0, 1) := by decide +kernel
theorem dX0_piece_25 : decode cX0_piece 25 = .ok (.getfield 7, 3) := by decide +kernel
theorem dX0_piece_28 : decode cX0_piece 28 = .ok (.iload_n 1, 1) := by decide +kernel
theorem dX0_piece_29 : decode cX0_piece 29 = .ok (.baload, 1) := by decide +kernel
theorem dX0_piece_30 : decode cX0_piece 30 = .ok (.iadd, 1) := by decide +kernel
theorem dX0_piece_31 : decode cX0_piece 31 = .ok (.if_icmp .ge 76, 3) := by decide +kernel
theorem dX0_piece_34 : decode cX0_piece 34 = .ok (.aload_n 0, 1) := by decide +kernel
theorem dX0_piece_35 : decode cX0_piece 35 = .ok (.getfield 13, 3) := by decide +kernel
theorem dX0_piece_38 : decode cX0_piece 38 = .ok (.iload 4, 2) := by decide +kernel
theorem dX0_piece_40 : decode cX0_piece 40 = .ok (.saload, 1) := by decide +kernel
theorem dX0_piece_41 : decode cX0_piece 41 = .ok (.istore 5, 2) := by decide +kernel
theorem dX0_piece_43 : decode cX0_piece 43 = .ok (.iload 5, 2) := by decide +kernel
theorem dX0_piece_45 : decode cX0_piece 45 = .ok (.aload_n 0, 1) := by decide +kernel
theorem dX0_piece_46 : decode cX0_piece 46 = .ok (.getfield 17, 3) := by decide +kernel
theorem dX0_piece_49 : decode cX0_piece 49 = .ok (.iload 4, 2) := by decide +kernel
theorem dX0_piece_51 : decode cX0_piece 51 = .ok (.saload, 1) := by decide +kernel
theorem dX0_piece_52 : decode cX0_piece 52 = .ok (.if_icmp .gt 49, 3) := by decide +kernel
theorem dX0_piece_55 : decode cX0_piece 55 = .ok (.aload_n 0, 1) := by decide +kernel
theorem dX0_piece_56 : decode cX0_piece 56 = .ok (.iload 5, 2) := by decide +kernel
theorem dX0_piece_58 : decode cX0_piece 58 = .ok (.aload_n 0, 1) := by decide +kernel
theorem dX0_piece_59 : decode cX0_piece 59 = .ok (.getfield 17, 3) := by decide +kernel
theorem dX0_piece_62 : decode cX0_piece 62 = .ok (.iload 4, 2) := by decide +kernel
theorem dX0_piece_64 : decode cX0_piece 64 = .ok (.saload, 1) := by decide +kernel
theorem dX0_piece_65 : decode cX0_piece 65 = .ok (.invokevirtual 54, 3) := by decide +kernel
theorem dX0_piece_68 : decode cX0_piece 68 = .ok (.istore 6, 2) := by decide +kernel
theorem dX0_piece_70 : decode cX0_piece 70 = .ok (.iload_n 3, 1) := by decide +kernel
theorem dX0_piece_71 : decode cX0_piece 71 = .ok (.ifCond .ne 17, 3) := by decide +kernel
theorem dX0_piece_74 : decode cX0_piece 74 = .ok (.sipush 256, 3) := by decide +kernel
theorem dX0_piece_77 : decode cX0_piece 77 = .ok (.aload_n 0, 1) := by decide +kernel
theorem dX0_piece_78 : decode cX0_piece 78 = .ok (.iload 6, 2) := by decide +kernel
theorem dX0_piece_80 : decode cX0_piece 80 = .ok (.invokevirtual 57, 3) := by decide +kernel
theorem dX0_piece_83 : decode cX0_piece 83 = .ok (.imul, 1) := by decide +kernel
theorem dX0_piece_84 : decode cX0_piece 84 = .ok (.iload 5, 2) := by decide +kernel
theorem dX0_piece_86 : decode cX0_piece 86 = .ok (.iadd, 1) := by decide +kernel
theorem dX0_piece_87 : decode cX0_piece 87 = .ok (.ireturn, 1) := by decide +kernel
theorem dX0_piece_88 : decode cX0_piece 88 = .ok (.iinc 3 (-1), 3) := by decide +kernel
theorem dX0_piece_91 : decode cX0_piece 91 = .ok (.iload 5, 2) := by decide +kernel
theorem dX0_piece_93 : decode cX0_piece 93 = .ok (.iload 6, 2) := by decide +kernel
theorem dX0_piece_95 : decode cX0_piece 95 = .ok (.iadd, 1) := by decide +kernel
theorem dX0_piece_96 : decode cX0_piece 96 = .ok (.istore 5, 2) := by decide +kernel
theorem dX0_piece_98 : decode cX0_piece 98 = .ok (.goto (-55), 3) := by decide +kernel
theorem dX0_piece_101 : decode cX0_piece 101 = .ok (.iinc 4 1, 3) := by decide +kernel
theorem dX0_piece_104 : decode cX0_piece 104 = .ok (.goto (-86), 3) := by decide +kernel
theorem dX0_piece_107 : decode cX0_piece 107 = .ok (.bipush (-3), 2) := by decide +kernel
theorem dX0_piece_109 : decode cX0_piece 109 = .ok (.ireturn, 1) := by decide +kernel
abbrev cX0_levelOf : ByteArray := prog_1_method_18_code
def yX0_levelOf : MethodName := ⟨RX0, "levelOf", "(I)I"⟩
theorem dX0_levelOf_0 : decode cX0_levelOf 0 = .ok (.iconst 4, 1) := by decide +kernel
theorem dX0_levelOf_1 : decode cX0_levelOf 1 = .ok (.istore_n 2, 1) := by decide +kernel
theorem dX0_levelOf_2 : decode cX0_levelOf 2 = .ok (.iload_n 1, 1) := by decide +kernel
theorem dX0_levelOf_3 : decode cX0_levelOf 3 = .ok (.istore_n 3, 1) := by decide +kernel
theorem dX0_levelOf_4 : decode cX0_levelOf 4 = .ok (.iload_n 3, 1) := by decide +kernel
theorem dX0_levelOf_5 : decode cX0_levelOf 5 = .ok (.iconst 1, 1) := by decide +kernel
theorem dX0_levelOf_6 : decode cX0_levelOf 6 = .ok (.if_icmp .le 13, 3) := by decide +kernel
theorem dX0_levelOf_9 : decode cX0_levelOf 9 = .ok (.iload_n 3, 1) := by decide +kernel
theorem dX0_levelOf_10 : decode cX0_levelOf 10 = .ok (.iconst 4, 1) := by decide +kernel
theorem dX0_levelOf_11 : decode cX0_levelOf 11 = .ok (.idiv, 1) := by decide +kernel
theorem dX0_levelOf_12 : decode cX0_levelOf 12 = .ok (.istore_n 3, 1) := by decide +kernel
theorem dX0_levelOf_13 : decode cX0_levelOf 13 = .ok (.iinc 2 (-1), 3) := by decide +kernel
theorem dX0_levelOf_16 : decode cX0_levelOf 16 = .ok (.goto (-12), 3) := by decide +kernel
theorem dX0_levelOf_19 : decode cX0_levelOf 19 = .ok (.iload_n 2, 1) := by decide +kernel
theorem dX0_levelOf_20 : decode cX0_levelOf 20 = .ok (.ireturn, 1) := by decide +kernel
abbrev cX0_number : ByteArray := prog_1_method_12_code
def yX0_number : MethodName := ⟨RX0, "number", "(II)I"⟩
theorem dX0_number_0 : decode cX0_number 0 = .ok (.aload_n 0, 1) := by decide +kernel
theorem dX0_number_1 : decode cX0_number 1 = .ok (.iload_n 1, 1) := by decide +kernel
theorem dX0_number_2 : decode cX0_number 2 = .ok (.iload_n 2, 1) := by decide +kernel
theorem dX0_number_3 : decode cX0_number 3 = .ok (.invokevirtual 50, 3) := by decide +kernel
theorem dX0_number_6 : decode cX0_number 6 = .ok (.ifCond .eq 12, 3) := by decide +kernel
theorem dX0_number_9 : decode cX0_number 9 = .ok (.aload_n 0, 1) := by decide +kernel
theorem dX0_number_10 : decode cX0_number 10 = .ok (.iload_n 1, 1) := by decide +kernel
theorem dX0_number_11 : decode cX0_number 11 = .ok (.iload_n 2, 1) := by decide +kernel
theorem dX0_number_12 : decode cX0_number 12 = .ok (.invokevirtual 30, 3) := by decide +kernel
theorem dX0_number_15 : decode cX0_number 15 = .ok (.goto 4, 3) := by decide +kernel
theorem dX0_number_18 : decode cX0_number 18 = .ok (.iconst (-1), 1) := by decide +kernel
theorem dX0_number_19 : decode cX0_number 19 = .ok (.ireturn, 1) := by decide +kernel
abbrev cX0_place : ByteArray := prog_1_method_13_code
def yX0_place : MethodName := ⟨RX0, "place", "(I)I"⟩
theorem dX0_place_0 : decode cX0_place 0 = .ok (.iload_n 1, 1) := by decide +kernel
theorem dX0_place_1 : decode cX0_place 1 = .ok (.ifCond .lt 10, 3) := by decide +kernel
theorem dX0_place_4 : decode cX0_place 4 = .ok (.iload_n 1, 1) := by decide +kernel
theorem dX0_place_5 : decode cX0_place 5 = .ok (.sipush 255, 3) := by decide +kernel
theorem dX0_place_8 : decode cX0_place 8 = .ok (.if_icmp .le 5, 3) := by decide +kernel
theorem dX0_place_11 : decode cX0_place 11 = .ok (.iconst (-1), 1) := by decide +kernel
theorem dX0_place_12 : decode cX0_place 12 = .ok (.ireturn, 1) := by decide +kernel
theorem dX0_place_13 : decode cX0_place 13 = .ok (.aload_n 0, 1) := by decide +kernel
theorem dX0_place_14 : decode cX0_place 14 = .ok (.iload_n 1, 1) := by decide +kernel
theorem dX0_place_15 : decode cX0_place 15 = .ok (.invokevirtual 60, 3) := by decide +kernel
theorem dX0_place_18 : decode cX0_place 18 = .ok (.bipush 16, 2) := by decide +kernel
theorem dX0_place_20 : decode cX0_place 20 = .ok (.aload_n 0, 1) := by decide +kernel
theorem dX0_place_21 : decode cX0_place 21 = .ok (.getfield 64, 3) := by decide +kernel
theorem dX0_place_24 : decode cX0_place 24 = .ok (.imul, 1) := by decide +kernel
theorem dX0_place_25 : decode cX0_place 25 = .ok (.aload_n 0, 1) := by decide +kernel
theorem dX0_place_26 : decode cX0_place 26 = .ok (.getfield 67, 3) := by decide +kernel
theorem dX0_place_29 : decode cX0_place 29 = .ok (.iadd, 1) := by decide +kernel
theorem dX0_place_30 : decode cX0_place 30 = .ok (.ireturn, 1) := by decide +kernel
abbrev cX0_find : ByteArray := prog_1_method_20_code
def yX0_find : MethodName := ⟨RX0, "find", "(I)V"⟩
theorem dX0_find_0 : decode cX0_find 0 = .ok (.iload_n 1, 1) := by decide +kernel
theorem dX0_find_1 : decode cX0_find 1 = .ok (.istore_n 2, 1) := by decide +kernel
theorem dX0_find_2 : decode cX0_find 2 = .ok (.aload_n 0, 1) := by decide +kernel
theorem dX0_find_3 : decode cX0_find 3 = .ok (.iconst 0, 1) := by decide +kernel
theorem dX0_find_4 : decode cX0_find 4 = .ok (.putfield 64, 3) := by decide +kernel
theorem dX0_find_7 : decode cX0_find 7 = .ok (.aload_n 0, 1) := by decide +kernel
theorem dX0_find_8 : decode cX0_find 8 = .ok (.iconst 0, 1) := by decide +kernel
theorem dX0_find_9 : decode cX0_find 9 = .ok (.putfield 67, 3) := by decide +kernel
theorem dX0_find_12 : decode cX0_find 12 = .ok (.iconst 1, 1) := by decide +kernel
theorem dX0_find_13 : decode cX0_find 13 = .ok (.istore_n 3, 1) := by decide +kernel
theorem dX0_find_14 : decode cX0_find 14 = .ok (.iload_n 3, 1) := by decide +kernel
theorem dX0_find_15 : decode cX0_find 15 = .ok (.bipush 16, 2) := by decide +kernel
theorem dX0_find_17 : decode cX0_find 17 = .ok (.if_icmp .ge 110, 3) := by decide +kernel
theorem dX0_find_20 : decode cX0_find 20 = .ok (.iload_n 2, 1) := by decide +kernel
theorem dX0_find_21 : decode cX0_find 21 = .ok (.iconst 1, 1) := by decide +kernel
theorem dX0_find_22 : decode cX0_find 22 = .ok (.ishr, 1) := by decide +kernel
theorem dX0_find_23 : decode cX0_find 23 = .ok (.iconst 1, 1) := by decide +kernel
theorem dX0_find_24 : decode cX0_find 24 = .ok (.iand, 1) := by decide +kernel
theorem dX0_find_25 : decode cX0_find 25 = .ok (.istore 4, 2) := by decide +kernel
theorem dX0_find_27 : decode cX0_find 27 = .ok (.iload_n 2, 1) := by decide +kernel
theorem dX0_find_28 : decode cX0_find 28 = .ok (.iload 4, 2) := by decide +kernel
theorem dX0_find_30 : decode cX0_find 30 = .ok (.ixor, 1) := by decide +kernel
theorem dX0_find_31 : decode cX0_find 31 = .ok (.iconst 1, 1) := by decide +kernel
theorem dX0_find_32 : decode cX0_find 32 = .ok (.iand, 1) := by decide +kernel
theorem dX0_find_33 : decode cX0_find 33 = .ok (.istore 5, 2) := by decide +kernel
theorem dX0_find_35 : decode cX0_find 35 = .ok (.iload 5, 2) := by decide +kernel
theorem dX0_find_37 : decode cX0_find 37 = .ok (.ifCond .ne 53, 3) := by decide +kernel
theorem dX0_find_40 : decode cX0_find 40 = .ok (.aload_n 0, 1) := by decide +kernel
theorem dX0_find_41 : decode cX0_find 41 = .ok (.getfield 64, 3) := by decide +kernel
theorem dX0_find_44 : decode cX0_find 44 = .ok (.istore 6, 2) := by decide +kernel
theorem dX0_find_46 : decode cX0_find 46 = .ok (.aload_n 0, 1) := by decide +kernel
theorem dX0_find_47 : decode cX0_find 47 = .ok (.iload 4, 2) := by decide +kernel
theorem dX0_find_49 : decode cX0_find 49 = .ok (.ifCond .ne 10, 3) := by decide +kernel
theorem dX0_find_52 : decode cX0_find 52 = .ok (.aload_n 0, 1) := by decide +kernel
theorem dX0_find_53 : decode cX0_find 53 = .ok (.getfield 67, 3) := by decide +kernel
theorem dX0_find_56 : decode cX0_find 56 = .ok (.goto 11, 3) := by decide +kernel
theorem dX0_find_59 : decode cX0_find 59 = .ok (.iload_n 3, 1) := by decide +kernel
theorem dX0_find_60 : decode cX0_find 60 = .ok (.iconst 1, 1) := by decide +kernel
theorem dX0_find_61 : decode cX0_find 61 = .ok (.isub, 1) := by decide +kernel
theorem dX0_find_62 : decode cX0_find 62 = .ok (.aload_n 0, 1) := by decide +kernel
theorem dX0_find_63 : decode cX0_find 63 = .ok (.getfield 67, 3) := by decide +kernel
theorem dX0_find_66 : decode cX0_find 66 = .ok (.isub, 1) := by decide +kernel
theorem dX0_find_67 : decode cX0_find 67 = .ok (.putfield 64, 3) := by decide +kernel
theorem dX0_find_70 : decode cX0_find 70 = .ok (.aload_n 0, 1) := by decide +kernel
theorem dX0_find_71 : decode cX0_find 71 = .ok (.iload 4, 2) := by decide +kernel
theorem dX0_find_73 : decode cX0_find 73 = .ok (.ifCond .ne 8, 3) := by decide +kernel
theorem dX0_find_76 : decode cX0_find 76 = .ok (.iload 6, 2) := by decide +kernel
theorem dX0_find_78 : decode cX0_find 78 = .ok (.goto 9, 3) := by decide +kernel
theorem dX0_find_81 : decode cX0_find 81 = .ok (.iload_n 3, 1) := by decide +kernel
theorem dX0_find_82 : decode cX0_find 82 = .ok (.iconst 1, 1) := by decide +kernel
theorem dX0_find_83 : decode cX0_find 83 = .ok (.isub, 1) := by decide +kernel
theorem dX0_find_84 : decode cX0_find 84 = .ok (.iload 6, 2) := by decide +kernel
theorem dX0_find_86 : decode cX0_find 86 = .ok (.isub, 1) := by decide +kernel
theorem dX0_find_87 : decode cX0_find 87 = .ok (.putfield 67, 3) := by decide +kernel
theorem dX0_find_90 : decode cX0_find 90 = .ok (.aload_n 0, 1) := by decide +kernel
theorem dX0_find_91 : decode cX0_find 91 = .ok (.dup, 1) := by decide +kernel
theorem dX0_find_92 : decode cX0_find 92 = .ok (.getfield 64, 3) := by decide +kernel
theorem dX0_find_95 : decode cX0_find 95 = .ok (.iload_n 3, 1) := by decide +kernel
theorem dX0_find_96 : decode cX0_find 96 = .ok (.iload 4, 2) := by decide +kernel
theorem dX0_find_98 : decode cX0_find 98 = .ok (.imul, 1) := by decide +kernel
theorem dX0_find_99 : decode cX0_find 99 = .ok (.iadd, 1) := by decide +kernel
theorem dX0_find_100 : decode cX0_find 100 = .ok (.putfield 64, 3) := by decide +kernel
theorem dX0_find_103 : decode cX0_find 103 = .ok (.aload_n 0, 1) := by decide +kernel
theorem dX0_find_104 : decode cX0_find 104 = .ok (.dup, 1) := by decide +kernel
theorem dX0_find_105 : decode cX0_find 105 = .ok (.getfield 67, 3) := by decide +kernel
theorem dX0_find_108 : decode cX0_find 108 = .ok (.iload_n 3, 1) := by decide +kernel
theorem dX0_find_109 : decode cX0_find 109 = .ok (.iload 5, 2) := by decide +kernel
theorem dX0_find_111 : decode cX0_find 111 = .ok (.imul, 1) := by decide +kernel
theorem dX0_find_112 : decode cX0_find 112 = .ok (.iadd, 1) := by decide +kernel
theorem dX0_find_113 : decode cX0_find 113 = .ok (.putfield 67, 3) := by decide +kernel
theorem dX0_find_116 : decode cX0_find 116 = .ok (.iload_n 2, 1) := by decide +kernel
theorem dX0_find_117 : decode cX0_find 117 = .ok (.iconst 2, 1) := by decide +kernel
theorem dX0_find_118 : decode cX0_find 118 = .ok (.ishr, 1) := by decide +kernel
theorem dX0_find_119 : decode cX0_find 119 = .ok (.istore_n 2, 1) := by decide +kernel
theorem dX0_find_120 : decode cX0_find 120 = .ok (.iload_n 3, 1) := by decide +kernel
theorem dX0_find_121 : decode cX0_find 121 = .ok (.iconst 2, 1) := by decide +kernel
theorem dX0_find_122 : decode cX0_find 122 = .ok (.imul, 1) := by decide +kernel
theorem dX0_find_123 : decode cX0_find 123 = .ok (.istore_n 3, 1) := by decide +kernel
theorem dX0_find_124 : decode cX0_find 124 = .ok (.goto (-110), 3) := by decide +kernel
theorem dX0_find_127 : decode cX0_find 127 = .ok (.return_, 1) := by decide +kernel
abbrev cX0_nth : ByteArray := prog_1_method_14_code
def yX0_nth : MethodName := ⟨RX0, "nth", "(II)I"⟩
theorem dX0_nth_0 : decode cX0_nth 0 = .ok (.aload_n 0, 1) := by decide +kernel
theorem dX0_nth_1 : decode cX0_nth 1 = .ok (.iload_n 1, 1) := by decide +kernel
theorem dX0_nth_2 : decode cX0_nth 2 = .ok (.invokevirtual 26, 3) := by decide +kernel
theorem dX0_nth_5 : decode cX0_nth 5 = .ok (.ifCond .ne 5, 3) := by decide +kernel
theorem dX0_nth_8 : decode cX0_nth 8 = .ok (.iconst (-1), 1) := by decide +kernel
theorem dX0_nth_9 : decode cX0_nth 9 = .ok (.ireturn, 1) := by decide +kernel
theorem dX0_nth_10 : decode cX0_nth 10 = .ok (.iload_n 2, 1) := by decide +kernel
theorem dX0_nth_11 : decode cX0_nth 11 = .ok (.ifCond .ge 6, 3) := by decide +kernel
theorem dX0_nth_14 : decode cX0_nth 14 = .ok (.bipush (-3), 2) := by decide +kernel
theorem dX0_nth_16 : decode cX0_nth 16 = .ok (.ireturn, 1) := by decide +kernel
theorem dX0_nth_17 : decode cX0_nth 17 = .ok (.iload_n 2, 1) := by decide +kernel
theorem dX0_nth_18 : decode cX0_nth 18 = .ok (.istore_n 3, 1) := by decide +kernel
theorem dX0_nth_19 : decode cX0_nth 19 = .ok (.bipush 40, 2) := by decide +kernel
theorem dX0_nth_21 : decode cX0_nth 21 = .ok (.iload_n 1, 1) := by decide +kernel
theorem dX0_nth_22 : decode cX0_nth 22 = .ok (.imul, 1) := by decide +kernel
theorem dX0_nth_23 : decode cX0_nth 23 = .ok (.istore 4, 2) := by decide +kernel
theorem dX0_nth_25 : decode cX0_nth 25 = .ok (.iload 4, 2) := by decide +kernel
theorem dX0_nth_27 : decode cX0_nth 27 = .ok (.bipush 40, 2) := by decide +kernel
theorem dX0_nth_29 : decode cX0_nth 29 = .ok (.iload_n 1, 1) := by decide +kernel
theorem dX0_nth_30 : decode cX0_nth 30 = .ok (.imul, 1) := by decide +kernel
theorem dX0_nth_31 : decode cX0_nth 31 = .ok (.aload_n 0, 1) := by decide +kernel
theorem dX0_nth_32 : decode cX0_nth 32 = .ok (.getfield 7, 3) := by decide +kernel
theorem dX0_nth_35 : decode cX0_nth 35 = .ok (.iload_n 1, 1) := by decide +kernel
theorem dX0_nth_36 : decode cX0_nth 36 = .ok (.baload, 1) := by decide +kernel
theorem dX0_nth_37 : decode cX0_nth 37 = .ok (.iadd, 1) := by decide +kernel
theorem dX0_nth_38 : decode cX0_nth 38 = .ok (.if_icmp .ge 65, 3) := by decide +kernel
theorem dX0_nth_41 : decode cX0_nth 41 = .ok (.aload_n 0, 1) := by decide +kernel
theorem dX0_nth_42 : decode cX0_nth 42 = .ok (.getfield 17, 3) := by decide +kernel
theorem dX0_nth_45 : decode cX0_nth 45 = .ok (.iload 4, 2) := by decide +kernel
theorem dX0_nth_47 : decode cX0_nth 47 = .ok (.saload, 1) := by decide +kernel
theorem dX0_nth_48 : decode cX0_nth 48 = .ok (.aload_n 0, 1) := by decide +kernel
theorem dX0_nth_49 : decode cX0_nth 49 = .ok (.getfield 13, 3) := by decide +kernel
theorem dX0_nth_52 : decode cX0_nth 52 = .ok (.iload 4, 2) := by decide +kernel
theorem dX0_nth_54 : decode cX0_nth 54 = .ok (.saload, 1) := by decide +kernel
theorem dX0_nth_55 : decode cX0_nth 55 = .ok (.isub, 1) := by decide +kernel
theorem dX0_nth_56 : decode cX0_nth 56 = .ok (.iconst 1, 1) := by decide +kernel
theorem dX0_nth_57 : decode cX0_nth 57 = .ok (.iadd, 1) := by decide +kernel
theorem dX0_nth_58 : decode cX0_nth 58 = .ok (.istore 5, 2) := by decide +kernel
theorem dX0_nth_60 : decode cX0_nth 60 = .ok (.iload_n 3, 1) := by decide +kernel
theorem dX0_nth_61 : decode cX0_nth 61 = .ok (.iload 5, 2) := by decide +kernel
theorem dX0_nth_63 : decode cX0_nth 63 = .ok (.if_icmp .ge 29, 3) := by decide +kernel
theorem dX0_nth_66 : decode cX0_nth 66 = .ok (.aload_n 0, 1) := by decide +kernel
theorem dX0_nth_67 : decode cX0_nth 67 = .ok (.aload_n 0, 1) := by decide +kernel
theorem dX0_nth_68 : decode cX0_nth 68 = .ok (.getfield 13, 3) := by decide +kernel
theorem dX0_nth_71 : decode cX0_nth 71 = .ok (.iload 4, 2) := by decide +kernel
theorem dX0_nth_73 : decode cX0_nth 73 = .ok (.saload, 1) := by decide +kernel
theorem dX0_nth_74 : decode cX0_nth 74 = .ok (.iload_n 3, 1) := by decide +kernel
theorem dX0_nth_75 : decode cX0_nth 75 = .ok (.iadd, 1) := by decide +kernel
theorem dX0_nth_76 : decode cX0_nth 76 = .ok (.invokevirtual 60, 3) := by decide +kernel
theorem dX0_nth_79 : decode cX0_nth 79 = .ok (.bipush 16, 2) := by decide +kernel
theorem dX0_nth_81 : decode cX0_nth 81 = .ok (.aload_n 0, 1) := by decide +kernel
theorem dX0_nth_82 : decode cX0_nth 82 = .ok (.getfield 64, 3) := by decide +kernel
theorem dX0_nth_85 : decode cX0_nth 85 = .ok (.imul, 1) := by decide +kernel
theorem dX0_nth_86 : decode cX0_nth 86 = .ok (.aload_n 0, 1) := by decide +kernel
theorem dX0_nth_87 : decode cX0_nth 87 = .ok (.getfield 67, 3) := by decide +kernel
theorem dX0_nth_90 : decode cX0_nth 90 = .ok (.iadd, 1) := by decide +kernel
theorem dX0_nth_91 : decode cX0_nth 91 = .ok (.ireturn, 1) := by decide +kernel
theorem dX0_nth_92 : decode cX0_nth 92 = .ok (.iload_n 3, 1) := by decide +kernel
theorem dX0_nth_93 : decode cX0_nth 93 = .ok (.iload 5, 2) := by decide +kernel
theorem dX0_nth_95 : decode cX0_nth 95 = .ok (.isub, 1) := by decide +kernel
theorem dX0_nth_96 : decode cX0_nth 96 = .ok (.istore_n 3, 1) := by decide +kernel
theorem dX0_nth_97 : decode cX0_nth 97 = .ok (.iinc 4 1, 3) := by decide +kernel
theorem dX0_nth_100 : decode cX0_nth 100 = .ok (.goto (-75), 3) := by decide +kernel
theorem dX0_nth_103 : decode cX0_nth 103 = .ok (.bipush (-3), 2) := by decide +kernel
theorem dX0_nth_105 : decode cX0_nth 105 = .ok (.ireturn, 1) := by decide +kernel
abbrev cX0_touched : ByteArray := prog_1_method_15_code
def yX0_touched : MethodName := ⟨RX0, "touched", "(II)I"⟩
theorem dX0_touched_0 : decode cX0_touched 0 = .ok (.aload_n 0, 1) := by decide +kernel
theorem dX0_touched_1 : decode cX0_touched 1 = .ok (.iload_n 1, 1) := by decide +kernel
theorem dX0_touched_2 : decode cX0_touched 2 = .ok (.invokevirtual 26, 3) := by decide +kernel
theorem dX0_touched_5 : decode cX0_touched 5 = .ok (.ifCond .eq 12, 3) := by decide +kernel
theorem dX0_touched_8 : decode cX0_touched 8 = .ok (.iload_n 2, 1) := by decide +kernel
theorem dX0_touched_9 : decode cX0_touched 9 = .ok (.ifCond .lt 8, 3) := by decide +kernel
theorem dX0_touched_12 : decode cX0_touched 12 = .ok (.iload_n 2, 1) := by decide +kernel
theorem dX0_touched_13 : decode cX0_touched 13 = .ok (.iconst 4, 1) := by decide +kernel
theorem dX0_touched_14 : decode cX0_touched 14 = .ok (.if_icmp .le 5, 3) := by decide +kernel
theorem dX0_touched_17 : decode cX0_touched 17 = .ok (.iconst (-1), 1) := by decide +kernel
theorem dX0_touched_18 : decode cX0_touched 18 = .ok (.ireturn, 1) := by decide +kernel
theorem dX0_touched_19 : decode cX0_touched 19 = .ok (.bipush 8, 2) := by decide +kernel
theorem dX0_touched_21 : decode cX0_touched 21 = .ok (.iconst 2, 1) := by decide +kernel
theorem dX0_touched_22 : decode cX0_touched 22 = .ok (.iload_n 2, 1) := by decide +kernel
theorem dX0_touched_23 : decode cX0_touched 23 = .ok (.imul, 1) := by decide +kernel
theorem dX0_touched_24 : decode cX0_touched 24 = .ok (.isub, 1) := by decide +kernel
theorem dX0_touched_25 : decode cX0_touched 25 = .ok (.istore_n 3, 1) := by decide +kernel
theorem dX0_touched_26 : decode cX0_touched 26 = .ok (.iconst 0, 1) := by decide +kernel
theorem dX0_touched_27 : decode cX0_touched 27 = .ok (.istore 4, 2) := by decide +kernel
theorem dX0_touched_29 : decode cX0_touched 29 = .ok (.iconst (-1), 1) := by decide +kernel
theorem dX0_touched_30 : decode cX0_touched 30 = .ok (.istore 5, 2) := by decide +kernel
theorem dX0_touched_32 : decode cX0_touched 32 = .ok (.bipush 40, 2) := by decide +kernel
theorem dX0_touched_34 : decode cX0_touched 34 = .ok (.iload_n 1, 1) := by decide +kernel
theorem dX0_touched_35 : decode cX0_touched 35 = .ok (.imul, 1) := by decide +kernel
theorem dX0_touched_36 : decode cX0_touched 36 = .ok (.istore 6, 2) := by decide +kernel
theorem dX0_touched_38 : decode cX0_touched 38 = .ok (.iload 6, 2) := by decide +kernel
theorem dX0_touched_40 : decode cX0_touched 40 = .ok (.bipush 40, 2) := by decide +kernel
theorem dX0_touched_42 : decode cX0_touched 42 = .ok (.iload_n 1, 1) := by decide +kernel
theorem dX0_touched_43 : decode cX0_touched 43 = .ok (.imul, 1) := by decide +kernel
theorem dX0_touched_44 : decode cX0_touched 44 = .ok (.aload_n 0, 1) := by decide +kernel
theorem dX0_touched_45 : decode cX0_touched 45 = .ok (.getfield 7, 3) := by decide +kernel
theorem dX0_touched_48 : decode cX0_touched 48 = .ok (.iload_n 1, 1) := by decide +kernel
theorem dX0_touched_49 : decode cX0_touched 49 = .ok (.baload, 1) := by decide +kernel
theorem dX0_touched_50 : decode cX0_touched 50 = .ok (.iadd, 1) := by decide +kernel
theorem dX0_touched_51 : decode cX0_touched 51 = .ok (.if_icmp .ge 57, 3) := by decide +kernel
theorem dX0_touched_54 : decode cX0_touched 54 = .ok (.aload_n 0, 1) := by decide +kernel
theorem dX0_touched_55 : decode cX0_touched 55 = .ok (.getfield 13, 3) := by decide +kernel
theorem dX0_touched_58 : decode cX0_touched 58 = .ok (.iload 6, 2) := by decide +kernel
theorem dX0_touched_60 : decode cX0_touched 60 = .ok (.saload, 1) := by decide +kernel
theorem dX0_touched_61 : decode cX0_touched 61 = .ok (.iload_n 3, 1) := by decide +kernel
theorem dX0_touched_62 : decode cX0_touched 62 = .ok (.ishr, 1) := by decide +kernel
theorem dX0_touched_63 : decode cX0_touched 63 = .ok (.istore 7, 2) := by decide +kernel
theorem dX0_touched_65 : decode cX0_touched 65 = .ok (.aload_n 0, 1) := by decide +kernel
theorem dX0_touched_66 : decode cX0_touched 66 = .ok (.getfield 17, 3) := by decide +kernel
theorem dX0_touched_69 : decode cX0_touched 69 = .ok (.iload 6, 2) := by decide +kernel
theorem dX0_touched_71 : decode cX0_touched 71 = .ok (.saload, 1) := by decide +kernel
theorem dX0_touched_72 : decode cX0_touched 72 = .ok (.iload_n 3, 1) := by decide +kernel
theorem dX0_touched_73 : decode cX0_touched 73 = .ok (.ishr, 1) := by decide +kernel
theorem dX0_touched_74 : decode cX0_touched 74 = .ok (.istore 8, 2) := by decide +kernel
theorem dX0_touched_76 : decode cX0_touched 76 = .ok (.iload 7, 2) := by decide +kernel
theorem dX0_touched_78 : decode cX0_touched 78 = .ok (.iload 5, 2) := by decide +kernel
theorem dX0_touched_80 : decode cX0_touched 80 = .ok (.if_icmp .ne 6, 3) := by decide +kernel
theorem dX0_touched_83 : decode cX0_touched 83 = .ok (.iinc 7 1, 3) := by decide +kernel
theorem dX0_touched_86 : decode cX0_touched 86 = .ok (.iload 4, 2) := by decide +kernel
theorem dX0_touched_88 : decode cX0_touched 88 = .ok (.iload 8, 2) := by decide +kernel
theorem dX0_touched_90 : decode cX0_touched 90 = .ok (.iload 7, 2) := by decide +kernel
theorem dX0_touched_92 : decode cX0_touched 92 = .ok (.isub, 1) := by decide +kernel
theorem dX0_touched_93 : decode cX0_touched 93 = .ok (.iconst 1, 1) := by decide +kernel
theorem dX0_touched_94 : decode cX0_touched 94 = .ok (.iadd, 1) := by decide +kernel
theorem dX0_touched_95 : decode cX0_touched 95 = .ok (.iadd, 1) := by decide +kernel
theorem dX0_touched_96 : decode cX0_touched 96 = .ok (.istore 4, 2) := by decide +kernel
theorem dX0_touched_98 : decode cX0_touched 98 = .ok (.iload 8, 2) := by decide +kernel
theorem dX0_touched_100 : decode cX0_touched 100 = .ok (.istore 5, 2) := by decide +kernel
theorem dX0_touched_102 : decode cX0_touched 102 = .ok (.iinc 6 1, 3) := by decide +kernel
theorem dX0_touched_105 : decode cX0_touched 105 = .ok (.goto (-67), 3) := by decide +kernel
theorem dX0_touched_108 : decode cX0_touched 108 = .ok (.iload 4, 2) := by decide +kernel
theorem dX0_touched_110 : decode cX0_touched 110 = .ok (.ireturn, 1) := by decide +kernel
theorem q19 : (Jvm.Cond.initialized "CellUnion") ∈ lw_all := lw_g (lw_at lw_m0 1 rfl) rfl
theorem q22 : (Jvm.Cond.instantiable "CellUnion" (8 : Nat)) ∈ lw_all := lw_g (lw_at lw_m0 4 rfl) rfl
theorem q24 : (Jvm.Cond.instanceMethod ({ cls := "CellUnion", name := "<init>", desc := "()V" } : Jvm.MethodName)) ∈ lw_all := lw_g (lw_at lw_m0 6 rfl) rfl
theorem q25 : (Jvm.Cond.code ({ cls := "CellUnion", name := "<init>", desc := "()V" } : Jvm.MethodName) prog_1_method_1_code (1 : Nat) (Option.none : Option Jvm.ClassFile.FieldType)) ∈ lw_all := lw_g (lw_at lw_m0 7 rfl) rfl
theorem q26 : (Jvm.Cond.methodLink "CellUnion" (1 : Nat) ({ cls := "java/lang/Object", name := "<init>", desc := "()V" } : Jvm.MethodName)) ∈ lw_all := lw_g (lw_at lw_m0 8 rfl) rfl
theorem q29 : (Jvm.Cond.fieldLink "CellUnion" (7 : Nat) "CellUnion" "count" "[B") ∈ lw_all := lw_g (lw_at lw_m0 11 rfl) rfl
theorem q30 : (Jvm.Cond.fieldLink "CellUnion" (13 : Nat) "CellUnion" "first" "[S") ∈ lw_all := lw_g (lw_at lw_m0 12 rfl) rfl
theorem q31 : (Jvm.Cond.fieldLink "CellUnion" (17 : Nat) "CellUnion" "last" "[S") ∈ lw_all := lw_g (lw_at lw_m0 13 rfl) rfl
theorem q32 : (Jvm.Cond.fieldLink "CellUnion" (38 : Nat) "CellUnion" "madeCount" "I") ∈ lw_all := lw_g (lw_at lw_m0 14 rfl) rfl
theorem q33 : (Jvm.Cond.fieldLink "CellUnion" (20 : Nat) "CellUnion" "madeFirst" "[S") ∈ lw_all := lw_g (lw_at lw_m0 15 rfl) rfl
theorem q34 : (Jvm.Cond.fieldLink "CellUnion" (23 : Nat) "CellUnion" "madeLast" "[S") ∈ lw_all := lw_g (lw_at lw_m0 16 rfl) rfl
theorem q35 : (Jvm.Cond.fieldLink "CellUnion" (64 : Nat) "CellUnion" "cellX" "I") ∈ lw_all := lw_g (lw_at lw_m0 17 rfl) rfl
theorem q36 : (Jvm.Cond.fieldLink "CellUnion" (67 : Nat) "CellUnion" "cellY" "I") ∈ lw_all := lw_g (lw_at lw_m0 18 rfl) rfl
theorem q37 : (Jvm.Cond.laysFinal "CellUnion" "CellUnion" "count" "[B") ∈ lw_all := lw_g (lw_at lw_m0 19 rfl) rfl
theorem q38 : (Jvm.Cond.soleField "CellUnion" "count") ∈ lw_all := lw_g (lw_at lw_m0 20 rfl) rfl
theorem q39 : (Jvm.Cond.laysFinal "CellUnion" "CellUnion" "first" "[S") ∈ lw_all := lw_g (lw_at lw_m0 21 rfl) rfl
theorem q40 : (Jvm.Cond.soleField "CellUnion" "first") ∈ lw_all := lw_g (lw_at lw_m0 22 rfl) rfl
theorem q41 : (Jvm.Cond.laysFinal "CellUnion" "CellUnion" "last" "[S") ∈ lw_all := lw_g (lw_at lw_m0 23 rfl) rfl
theorem q42 : (Jvm.Cond.soleField "CellUnion" "last") ∈ lw_all := lw_g (lw_at lw_m0 24 rfl) rfl
theorem q43 : (Jvm.Cond.lays "CellUnion" "CellUnion" "madeCount" "I") ∈ lw_all := lw_g (lw_at lw_m0 25 rfl) rfl
theorem q44 : (Jvm.Cond.soleField "CellUnion" "madeCount") ∈ lw_all := lw_g (lw_at lw_m0 26 rfl) rfl
theorem q45 : (Jvm.Cond.laysFinal "CellUnion" "CellUnion" "madeFirst" "[S") ∈ lw_all := lw_g (lw_at lw_m0 27 rfl) rfl
theorem q46 : (Jvm.Cond.soleField "CellUnion" "madeFirst") ∈ lw_all := lw_g (lw_at lw_m0 28 rfl) rfl
theorem q47 : (Jvm.Cond.laysFinal "CellUnion" "CellUnion" "madeLast" "[S") ∈ lw_all := lw_g (lw_at lw_m0 29 rfl) rfl
theorem q48 : (Jvm.Cond.soleField "CellUnion" "madeLast") ∈ lw_all := lw_g (lw_at lw_m0 30 rfl) rfl
theorem q49 : (Jvm.Cond.lays "CellUnion" "CellUnion" "cellX" "I") ∈ lw_all := lw_g (lw_at lw_m0 31 rfl) rfl
theorem q50 : (Jvm.Cond.soleField "CellUnion" "cellX") ∈ lw_all := lw_g (lw_at lw_m0 32 rfl) rfl
theorem q51 : (Jvm.Cond.lays "CellUnion" "CellUnion" "cellY" "I") ∈ lw_all := lw_g (lw_at lw_m0 33 rfl) rfl
theorem q52 : (Jvm.Cond.soleField "CellUnion" "cellY") ∈ lw_all := lw_g (lw_at lw_m0 34 rfl) rfl
theorem q53 : (Jvm.Cond.superclass "CellUnion" "java/lang/Object") ∈ lw_all := lw_g (lw_at lw_m0 35 rfl) rfl
theorem q57 : (Jvm.Cond.instanceMethod ({ cls := "CellUnion", name := "change", desc := "(IIZ)I" } : Jvm.MethodName)) ∈ lw_all := lw_g (lw_at lw_m0 39 rfl) rfl
theorem q58 : (Jvm.Cond.selects "CellUnion" ({ cls := "CellUnion", name := "change", desc := "(IIZ)I" } : Jvm.MethodName) ({ cls := "CellUnion", name := "change", desc := "(IIZ)I" } : Jvm.MethodName)) ∈ lw_all := lw_g (lw_at lw_m0 40 rfl) rfl
theorem q59 : (Jvm.Cond.code ({ cls := "CellUnion", name := "change", desc := "(IIZ)I" } : Jvm.MethodName) prog_1_method_2_code (10 : Nat) (Option.some Jvm.ClassFile.FieldType.int)) ∈ lw_all := lw_g (lw_at lw_m0 41 rfl) rfl
theorem q60 : (Jvm.Cond.methodLink "CellUnion" (26 : Nat) ({ cls := "CellUnion", name := "isSet", desc := "(I)Z" } : Jvm.MethodName)) ∈ lw_all := lw_g (lw_at lw_m0 42 rfl) rfl
theorem q61 : (Jvm.Cond.privateMethod ({ cls := "CellUnion", name := "isSet", desc := "(I)Z" } : Jvm.MethodName)) ∈ lw_tbl := lw_at lw_m0 43 rfl
theorem q62 : (Jvm.Cond.instanceMethod ({ cls := "CellUnion", name := "isSet", desc := "(I)Z" } : Jvm.MethodName)) ∈ lw_all := lw_g (lw_at lw_m0 44 rfl) rfl
theorem q63 : (Jvm.Cond.code ({ cls := "CellUnion", name := "isSet", desc := "(I)Z" } : Jvm.MethodName) prog_1_method_4_code (2 : Nat) (Option.some Jvm.ClassFile.FieldType.boolean)) ∈ lw_all := lw_g (lw_at lw_m0 45 rfl) rfl
theorem q64 : (Jvm.Cond.methodLink "CellUnion" (30 : Nat) ({ cls := "CellUnion", name := "numberOf", desc := "(II)I" } : Jvm.MethodName)) ∈ lw_all := lw_g (lw_at lw_m0 46 rfl) rfl
theorem q65 : (Jvm.Cond.privateMethod ({ cls := "CellUnion", name := "numberOf", desc := "(II)I" } : Jvm.MethodName)) ∈ lw_tbl := lw_at lw_m0 47 rfl
theorem q66 : (Jvm.Cond.instanceMethod ({ cls := "CellUnion", name := "numberOf", desc := "(II)I" } : Jvm.MethodName)) ∈ lw_all := lw_g (lw_at lw_m0 48 rfl) rfl
theorem q67 : (Jvm.Cond.code ({ cls := "CellUnion", name := "numberOf", desc := "(II)I" } : Jvm.MethodName) prog_1_method_19_code (10 : Nat) (Option.some Jvm.ClassFile.FieldType.int)) ∈ lw_all := lw_g (lw_at lw_m0 49 rfl) rfl
theorem q68 : (Jvm.Cond.methodLink "CellUnion" (34 : Nat) ({ cls := "CellUnion", name := "make", desc := "(IIII)I" } : Jvm.MethodName)) ∈ lw_all := lw_g (lw_at lw_m0 50 rfl) rfl
theorem q69 : (Jvm.Cond.privateMethod ({ cls := "CellUnion", name := "make", desc := "(IIII)I" } : Jvm.MethodName)) ∈ lw_tbl := lw_at lw_m0 51 rfl
theorem q70 : (Jvm.Cond.instanceMethod ({ cls := "CellUnion", name := "make", desc := "(IIII)I" } : Jvm.MethodName)) ∈ lw_all := lw_g (lw_at lw_m0 52 rfl) rfl
theorem q71 : (Jvm.Cond.code ({ cls := "CellUnion", name := "make", desc := "(IIII)I" } : Jvm.MethodName) prog_1_method_5_code (15 : Nat) (Option.some Jvm.ClassFile.FieldType.int)) ∈ lw_all := lw_g (lw_at lw_m0 53 rfl) rfl
theorem q72 : (Jvm.Cond.methodLink "CellUnion" (42 : Nat) ({ cls := "CellUnion", name := "append", desc := "(II)V" } : Jvm.MethodName)) ∈ lw_all := lw_g (lw_at lw_m0 54 rfl) rfl
theorem q73 : (Jvm.Cond.privateMethod ({ cls := "CellUnion", name := "append", desc := "(II)V" } : Jvm.MethodName)) ∈ lw_tbl := lw_at lw_m0 55 rfl
theorem q74 : (Jvm.Cond.instanceMethod ({ cls := "CellUnion", name := "append", desc := "(II)V" } : Jvm.MethodName)) ∈ lw_all := lw_g (lw_at lw_m0 56 rfl) rfl
theorem q75 : (Jvm.Cond.code ({ cls := "CellUnion", name := "append", desc := "(II)V" } : Jvm.MethodName) prog_1_method_6_code (3 : Nat) (Option.none : Option Jvm.ClassFile.FieldType)) ∈ lw_all := lw_g (lw_at lw_m0 57 rfl) rfl
theorem q76 : (Jvm.Cond.methodLink "CellUnion" (46 : Nat) ({ cls := "CellUnion", name := "cells", desc := "(I)I" } : Jvm.MethodName)) ∈ lw_all := lw_g (lw_at lw_m0 58 rfl) rfl
theorem q77 : (Jvm.Cond.instanceMethod ({ cls := "CellUnion", name := "cells", desc := "(I)I" } : Jvm.MethodName)) ∈ lw_all := lw_g (lw_at lw_m0 59 rfl) rfl
theorem q78 : (Jvm.Cond.selects "CellUnion" ({ cls := "CellUnion", name := "cells", desc := "(I)I" } : Jvm.MethodName) ({ cls := "CellUnion", name := "cells", desc := "(I)I" } : Jvm.MethodName)) ∈ lw_all := lw_g (lw_at lw_m0 60 rfl) rfl
theorem q79 : (Jvm.Cond.code ({ cls := "CellUnion", name := "cells", desc := "(I)I" } : Jvm.MethodName) prog_1_method_8_code (4 : Nat) (Option.some Jvm.ClassFile.FieldType.int)) ∈ lw_all := lw_g (lw_at lw_m0 61 rfl) rfl
theorem q81 : (Jvm.Cond.instanceMethod ({ cls := "CellUnion", name := "combine", desc := "(IIII)I" } : Jvm.MethodName)) ∈ lw_all := lw_g (lw_at lw_m0 63 rfl) rfl
theorem q82 : (Jvm.Cond.selects "CellUnion" ({ cls := "CellUnion", name := "combine", desc := "(IIII)I" } : Jvm.MethodName) ({ cls := "CellUnion", name := "combine", desc := "(IIII)I" } : Jvm.MethodName)) ∈ lw_all := lw_g (lw_at lw_m0 64 rfl) rfl
theorem q83 : (Jvm.Cond.code ({ cls := "CellUnion", name := "combine", desc := "(IIII)I" } : Jvm.MethodName) prog_1_method_3_code (5 : Nat) (Option.some Jvm.ClassFile.FieldType.int)) ∈ lw_all := lw_g (lw_at lw_m0 65 rfl) rfl
theorem q85 : (Jvm.Cond.instanceMethod ({ cls := "CellUnion", name := "has", desc := "(III)Z" } : Jvm.MethodName)) ∈ lw_all := lw_g (lw_at lw_m0 67 rfl) rfl
theorem q86 : (Jvm.Cond.selects "CellUnion" ({ cls := "CellUnion", name := "has", desc := "(III)Z" } : Jvm.MethodName) ({ cls := "CellUnion", name := "has", desc := "(III)Z" } : Jvm.MethodName)) ∈ lw_all := lw_g (lw_at lw_m0 68 rfl) rfl
theorem q87 : (Jvm.Cond.code ({ cls := "CellUnion", name := "has", desc := "(III)Z" } : Jvm.MethodName) prog_1_method_7_code (8 : Nat) (Option.some Jvm.ClassFile.FieldType.boolean)) ∈ lw_all := lw_g (lw_at lw_m0 69 rfl) rfl
theorem q88 : (Jvm.Cond.methodLink "CellUnion" (50 : Nat) ({ cls := "CellUnion", name := "isCell", desc := "(II)Z" } : Jvm.MethodName)) ∈ lw_all := lw_g (lw_at lw_m0 70 rfl) rfl
theorem q89 : (Jvm.Cond.privateMethod ({ cls := "CellUnion", name := "isCell", desc := "(II)Z" } : Jvm.MethodName)) ∈ lw_tbl := lw_at lw_m0 71 rfl
theorem q90 : (Jvm.Cond.instanceMethod ({ cls := "CellUnion", name := "isCell", desc := "(II)Z" } : Jvm.MethodName)) ∈ lw_all := lw_g (lw_at lw_m0 72 rfl) rfl
theorem q91 : (Jvm.Cond.code ({ cls := "CellUnion", name := "isCell", desc := "(II)Z" } : Jvm.MethodName) prog_1_method_16_code (3 : Nat) (Option.some Jvm.ClassFile.FieldType.boolean)) ∈ lw_all := lw_g (lw_at lw_m0 73 rfl) rfl
theorem q94 : (Jvm.Cond.instanceMethod ({ cls := "CellUnion", name := "stretches", desc := "(I)I" } : Jvm.MethodName)) ∈ lw_all := lw_g (lw_at lw_m0 76 rfl) rfl
theorem q95 : (Jvm.Cond.selects "CellUnion" ({ cls := "CellUnion", name := "stretches", desc := "(I)I" } : Jvm.MethodName) ({ cls := "CellUnion", name := "stretches", desc := "(I)I" } : Jvm.MethodName)) ∈ lw_all := lw_g (lw_at lw_m0 77 rfl) rfl
theorem q96 : (Jvm.Cond.code ({ cls := "CellUnion", name := "stretches", desc := "(I)I" } : Jvm.MethodName) prog_1_method_9_code (2 : Nat) (Option.some Jvm.ClassFile.FieldType.int)) ∈ lw_all := lw_g (lw_at lw_m0 78 rfl) rfl
theorem q98 : (Jvm.Cond.instanceMethod ({ cls := "CellUnion", name := "pieces", desc := "(I)I" } : Jvm.MethodName)) ∈ lw_all := lw_g (lw_at lw_m0 80 rfl) rfl
theorem q99 : (Jvm.Cond.selects "CellUnion" ({ cls := "CellUnion", name := "pieces", desc := "(I)I" } : Jvm.MethodName) ({ cls := "CellUnion", name := "pieces", desc := "(I)I" } : Jvm.MethodName)) ∈ lw_all := lw_g (lw_at lw_m0 81 rfl) rfl
theorem q100 : (Jvm.Cond.code ({ cls := "CellUnion", name := "pieces", desc := "(I)I" } : Jvm.MethodName) prog_1_method_10_code (5 : Nat) (Option.some Jvm.ClassFile.FieldType.int)) ∈ lw_all := lw_g (lw_at lw_m0 82 rfl) rfl
theorem q101 : (Jvm.Cond.methodLink "CellUnion" (54 : Nat) ({ cls := "CellUnion", name := "largestAt", desc := "(II)I" } : Jvm.MethodName)) ∈ lw_all := lw_g (lw_at lw_m0 83 rfl) rfl
theorem q102 : (Jvm.Cond.privateMethod ({ cls := "CellUnion", name := "largestAt", desc := "(II)I" } : Jvm.MethodName)) ∈ lw_tbl := lw_at lw_m0 84 rfl
theorem q103 : (Jvm.Cond.instanceMethod ({ cls := "CellUnion", name := "largestAt", desc := "(II)I" } : Jvm.MethodName)) ∈ lw_all := lw_g (lw_at lw_m0 85 rfl) rfl
theorem q104 : (Jvm.Cond.code ({ cls := "CellUnion", name := "largestAt", desc := "(II)I" } : Jvm.MethodName) prog_1_method_17_code (4 : Nat) (Option.some Jvm.ClassFile.FieldType.int)) ∈ lw_all := lw_g (lw_at lw_m0 86 rfl) rfl
theorem q106 : (Jvm.Cond.instanceMethod ({ cls := "CellUnion", name := "piece", desc := "(II)I" } : Jvm.MethodName)) ∈ lw_all := lw_g (lw_at lw_m0 88 rfl) rfl
theorem q107 : (Jvm.Cond.selects "CellUnion" ({ cls := "CellUnion", name := "piece", desc := "(II)I" } : Jvm.MethodName) ({ cls := "CellUnion", name := "piece", desc := "(II)I" } : Jvm.MethodName)) ∈ lw_all := lw_g (lw_at lw_m0 89 rfl) rfl
theorem q108 : (Jvm.Cond.code ({ cls := "CellUnion", name := "piece", desc := "(II)I" } : Jvm.MethodName) prog_1_method_11_code (7 : Nat) (Option.some Jvm.ClassFile.FieldType.int)) ∈ lw_all := lw_g (lw_at lw_m0 90 rfl) rfl
theorem q109 : (Jvm.Cond.methodLink "CellUnion" (57 : Nat) ({ cls := "CellUnion", name := "levelOf", desc := "(I)I" } : Jvm.MethodName)) ∈ lw_all := lw_g (lw_at lw_m0 91 rfl) rfl
theorem q110 : (Jvm.Cond.privateMethod ({ cls := "CellUnion", name := "levelOf", desc := "(I)I" } : Jvm.MethodName)) ∈ lw_tbl := lw_at lw_m0 92 rfl
theorem q111 : (Jvm.Cond.instanceMethod ({ cls := "CellUnion", name := "levelOf", desc := "(I)I" } : Jvm.MethodName)) ∈ lw_all := lw_g (lw_at lw_m0 93 rfl) rfl
theorem q112 : (Jvm.Cond.code ({ cls := "CellUnion", name := "levelOf", desc := "(I)I" } : Jvm.MethodName) prog_1_method_18_code (4 : Nat) (Option.some Jvm.ClassFile.FieldType.int)) ∈ lw_all := lw_g (lw_at lw_m0 94 rfl) rfl
theorem q114 : (Jvm.Cond.instanceMethod ({ cls := "CellUnion", name := "number", desc := "(II)I" } : Jvm.MethodName)) ∈ lw_all := lw_g (lw_at lw_m0 96 rfl) rfl
theorem q115 : (Jvm.Cond.selects "CellUnion" ({ cls := "CellUnion", name := "number", desc := "(II)I" } : Jvm.MethodName) ({ cls := "CellUnion", name := "number", desc := "(II)I" } : Jvm.MethodName)) ∈ lw_all := lw_g (lw_at lw_m0 97 rfl) rfl
theorem q116 : (Jvm.Cond.code ({ cls := "CellUnion", name := "number", desc := "(II)I" } : Jvm.MethodName) prog_1_method_12_code (3 : Nat) (Option.some Jvm.ClassFile.FieldType.int)) ∈ lw_all := lw_g (lw_at lw_m0 98 rfl) rfl
theorem q118 : (Jvm.Cond.instanceMethod ({ cls := "CellUnion", name := "place", desc := "(I)I" } : Jvm.MethodName)) ∈ lw_all := lw_g (lw_at lw_m0 100 rfl) rfl
theorem q119 : (Jvm.Cond.selects "CellUnion" ({ cls := "CellUnion", name := "place", desc := "(I)I" } : Jvm.MethodName) ({ cls := "CellUnion", name := "place", desc := "(I)I" } : Jvm.MethodName)) ∈ lw_all := lw_g (lw_at lw_m0 101 rfl) rfl
theorem q120 : (Jvm.Cond.code ({ cls := "CellUnion", name := "place", desc := "(I)I" } : Jvm.MethodName) prog_1_method_13_code (2 : Nat) (Option.some Jvm.ClassFile.FieldType.int)) ∈ lw_all := lw_g (lw_at lw_m0 102 rfl) rfl
theorem q121 : (Jvm.Cond.methodLink "CellUnion" (60 : Nat) ({ cls := "CellUnion", name := "find", desc := "(I)V" } : Jvm.MethodName)) ∈ lw_all := lw_g (lw_at lw_m0 103 rfl) rfl
theorem q122 : (Jvm.Cond.privateMethod ({ cls := "CellUnion", name := "find", desc := "(I)V" } : Jvm.MethodName)) ∈ lw_tbl := lw_at lw_m0 104 rfl
theorem q123 : (Jvm.Cond.instanceMethod ({ cls := "CellUnion", name := "find", desc := "(I)V" } : Jvm.MethodName)) ∈ lw_all := lw_g (lw_at lw_m0 105 rfl) rfl
theorem q124 : (Jvm.Cond.code ({ cls := "CellUnion", name := "find", desc := "(I)V" } : Jvm.MethodName) prog_1_method_20_code (7 : Nat) (Option.none : Option Jvm.ClassFile.FieldType)) ∈ lw_all := lw_g (lw_at lw_m0 106 rfl) rfl
theorem q126 : (Jvm.Cond.instanceMethod ({ cls := "CellUnion", name := "nth", desc := "(II)I" } : Jvm.MethodName)) ∈ lw_all := lw_g (lw_at lw_m0 108 rfl) rfl
theorem q127 : (Jvm.Cond.selects "CellUnion" ({ cls := "CellUnion", name := "nth", desc := "(II)I" } : Jvm.MethodName) ({ cls := "CellUnion", name := "nth", desc := "(II)I" } : Jvm.MethodName)) ∈ lw_all := lw_g (lw_at lw_m0 109 rfl) rfl
theorem q128 : (Jvm.Cond.code ({ cls := "CellUnion", name := "nth", desc := "(II)I" } : Jvm.MethodName) prog_1_method_14_code (6 : Nat) (Option.some Jvm.ClassFile.FieldType.int)) ∈ lw_all := lw_g (lw_at lw_m0 110 rfl) rfl
theorem q130 : (Jvm.Cond.instanceMethod ({ cls := "CellUnion", name := "touched", desc := "(II)I" } : Jvm.MethodName)) ∈ lw_all := lw_g (lw_at lw_m0 112 rfl) rfl
theorem q131 : (Jvm.Cond.selects "CellUnion" ({ cls := "CellUnion", name := "touched", desc := "(II)I" } : Jvm.MethodName) ({ cls := "CellUnion", name := "touched", desc := "(II)I" } : Jvm.MethodName)) ∈ lw_all := lw_g (lw_at lw_m0 113 rfl) rfl
theorem q132 : (Jvm.Cond.code ({ cls := "CellUnion", name := "touched", desc := "(II)I" } : Jvm.MethodName) prog_1_method_15_code (9 : Nat) (Option.some Jvm.ClassFile.FieldType.int)) ∈ lw_all := lw_g (lw_at lw_m0 114 rfl) rfl
theorem in_X0 : ∀ w ∈ wsX00, w ∈ lw_all := lw_in wsX00 [37, 39, 41, 43, 45, 47, 49, 51] (by decide +kernel) (by decide +kernel)
end
section
/-! CellUnionModel -/
set_option maxRecDepth 100000
def RX1 : String := "CellUnionModel"
def TX1 : u_T := fun k => match k with
  | 0 => ("CellUnionModel", "numbers", "[I", false)
  | 1 => ("CellUnionModel", "places", "[I", false)
  | 2 => ("CellUnionModel", "mark", "[Z", false)
  | _ => ("CellUnionModel", "then", "[Z", false)
def tyX1 : Nat → FieldType := fun k => match k with
  | 0 => .array .int
  | 1 => .array .int
  | 2 => .array .boolean
  | _ => .array .boolean
abbrev wsX10 : List Cond := u_ws RX1 TX1 4
theorem nmX1 : ∀ a, a < 4 → ∀ b, b < 4 → a ≠ b → (TX1 a).2.1 ≠ (TX1 b).2.1 := by decide +kernel
theorem tyX1_ok : ∀ k, k < 4 → parseFieldDescriptor (TX1 k).2.2.1 = some (tyX1 k) := by decide +kernel
abbrev cX1_init : ByteArray := prog_3_method_1_code
def yX1_init : MethodName := ⟨RX1, "<init>", "()V"⟩
theorem dX1_init_0 : decode cX1_init 0 = .ok (.aload_n 0, 1) := by decide +kernel
theorem dX1_init_1 : decode cX1_init 1 = .ok (.invokespecial 1, 3) := by decide +kernel
theorem dX1_init_4 : decode cX1_init 4 = .ok (.aload_n 0, 1) := by decide +kernel
theorem dX1_init_5 : decode cX1_init 5 = .ok (.sipush 256, 3) := by decide +kernel
theorem dX1_init_8 : decode cX1_init 8 = .ok (.newarray .int, 2) := by decide +kernel
theorem dX1_init_10 : decode cX1_init 10 = .ok (.putfield 7, 3) := by decide +kernel
theorem dX1_init_13 : decode cX1_init 13 = .ok (.aload_n 0, 1) := by decide +kernel
theorem dX1_init_14 : decode cX1_init 14 = .ok (.sipush 256, 3) := by decide +kernel
theorem dX1_init_17 : decode cX1_init 17 = .ok (.newarray .int, 2) := by decide +kernel
theorem dX1_init_19 : decode cX1_init 19 = .ok (.putfield 13, 3) := by decide +kernel
theorem dX1_init_22 : decode cX1_init 22 = .ok (.aload_n 0, 1) := by decide +kernel
theorem dX1_init_23 : decode cX1_init 23 = .ok (.sipush 1024, 3) := by decide +kernel
theorem dX1_init_26 : decode cX1_init 26 = .ok (.newarray .boolean, 2) := by decide +kernel
theorem dX1_init_28 : decode cX1_init 28 = .ok (.putfield 16, 3) := by decide +kernel
theorem dX1_init_31 : decode cX1_init 31 = .ok (.aload_n 0, 1) := by decide +kernel
theorem dX1_init_32 : decode cX1_init 32 = .ok (.sipush 256, 3) := by decide +kernel
theorem dX1_init_35 : decode cX1_init 35 = .ok (.newarray .boolean, 2) := by decide +kernel
theorem dX1_init_37 : decode cX1_init 37 = .ok (.putfield 20, 3) := by decide +kernel
theorem dX1_init_40 : decode cX1_init 40 = .ok (.iconst 0, 1) := by decide +kernel
theorem dX1_init_41 : decode cX1_init 41 = .ok (.istore_n 1, 1) := by decide +kernel
theorem dX1_init_42 : decode cX1_init 42 = .ok (.iload_n 1, 1) := by decide +kernel
theorem dX1_init_43 : decode cX1_init 43 = .ok (.sipush 256, 3) := by decide +kernel
theorem dX1_init_46 : decode cX1_init 46 = .ok (.if_icmp .ge 39, 3) := by decide +kernel
theorem dX1_init_49 : decode cX1_init 49 = .ok (.aload_n 0, 1) := by decide +kernel
theorem dX1_init_50 : decode cX1_init 50 = .ok (.getfield 7, 3) := by decide +kernel
theorem dX1_init_53 : decode cX1_init 53 = .ok (.iload_n 1, 1) := by decide +kernel
theorem dX1_init_54 : decode cX1_init 54 = .ok (.aload_n 0, 1) := by decide +kernel
theorem dX1_init_55 : decode cX1_init 55 = .ok (.iload_n 1, 1) := by decide +kernel
theorem dX1_init_56 : decode cX1_init 56 = .ok (.bipush 16, 2) := by decide +kernel
theorem dX1_init_58 : decode cX1_init 58 = .ok (.idiv, 1) := by decide +kernel
theorem dX1_init_59 : decode cX1_init 59 = .ok (.iload_n 1, 1) := by decide +kernel
theorem dX1_init_60 : decode cX1_init 60 = .ok (.bipush 16, 2) := by decide +kernel
theorem dX1_init_62 : decode cX1_init 62 = .ok (.irem, 1) := by decide +kernel
theorem dX1_init_63 : decode cX1_init 63 = .ok (.invokevirtual 23, 3) := by decide +kernel
theorem dX1_init_66 : decode cX1_init 66 = .ok (.iastore, 1) := by decide +kernel
theorem dX1_init_67 : decode cX1_init 67 = .ok (.aload_n 0, 1) := by decide +kernel
theorem dX1_init_68 : decode cX1_init 68 = .ok (.getfield 13, 3) := by decide +kernel
theorem dX1_init_71 : decode cX1_init 71 = .ok (.aload_n 0, 1) := by decide +kernel
theorem dX1_init_72 : decode cX1_init 72 = .ok (.getfield 7, 3) := by decide +kernel
theorem dX1_init_75 : decode cX1_init 75 = .ok (.iload_n 1, 1) := by decide +kernel
theorem dX1_init_76 : decode cX1_init 76 = .ok (.iaload, 1) := by decide +kernel
theorem dX1_init_77 : decode cX1_init 77 = .ok (.iload_n 1, 1) := by decide +kernel
theorem dX1_init_78 : decode cX1_init 78 = .ok (.iastore, 1) := by decide +kernel
theorem dX1_init_79 : decode cX1_init 79 = .ok (.iinc 1 1, 3) := by decide +kernel
theorem dX1_init_82 : decode cX1_init 82 = .ok (.goto (-40), 3) := by decide +kernel
theorem dX1_init_85 : decode cX1_init 85 = .ok (.return_, 1) := by decide +kernel
abbrev cX1_numberOf : ByteArray := prog_3_method_2_code
def yX1_numberOf : MethodName := ⟨RX1, "numberOf", "(II)I"⟩
theorem dX1_numberOf_0 : decode cX1_numberOf 0 = .ok (.iload_n 1, 1) := by decide +kernel
theorem dX1_numberOf_1 : decode cX1_numberOf 1 = .ok (.istore_n 3, 1) := by decide +kernel
theorem dX1_numberOf_2 : decode cX1_numberOf 2 = .ok (.iload_n 2, 1) := by decide +kernel
theorem dX1_numberOf_3 : decode cX1_numberOf 3 = .ok (.istore 4, 2) := by decide +kernel
theorem dX1_numberOf_5 : decode cX1_numberOf 5 = .ok (.iconst 0, 1) := by decide +kernel
theorem dX1_numberOf_6 : decode cX1_numberOf 6 = .ok (.istore 5, 2) := by decide +kernel
theorem dX1_numberOf_8 : decode cX1_numberOf 8 = .ok (.bipush 8, 2) := by decide +kernel
theorem dX1_numberOf_10 : decode cX1_numberOf 10 = .ok (.istore 6, 2) := by decide +kernel
theorem dX1_numberOf_12 : decode cX1_numberOf 12 = .ok (.iconst 0, 1) := by decide +kernel
theorem dX1_numberOf_13 : decode cX1_numberOf 13 = .ok (.istore 7, 2) := by decide +kernel
theorem dX1_numberOf_15 : decode cX1_numberOf 15 = .ok (.iload 7, 2) := by decide +kernel
theorem dX1_numberOf_17 : decode cX1_numberOf 17 = .ok (.iconst 4, 1) := by decide +kernel
theorem dX1_numberOf_18 : decode cX1_numberOf 18 = .ok (.if_icmp .ge 117, 3) := by decide +kernel
theorem dX1_numberOf_21 : decode cX1_numberOf 21 = .ok (.iload_n 3, 1) := by decide +kernel
theorem dX1_numberOf_22 : decode cX1_numberOf 22 = .ok (.iload 6, 2) := by decide +kernel
theorem dX1_numberOf_24 : decode cX1_numberOf 24 = .ok (.iand, 1) := by decide +kernel
theorem dX1_numberOf_25 : decode cX1_numberOf 25 = .ok (.ifCond .eq 7, 3) := by decide +kernel
theorem dX1_numberOf_28 : decode cX1_numberOf 28 = .ok (.iconst 1, 1) := by decide +kernel
theorem dX1_numberOf_29 : decode cX1_numberOf 29 = .ok (.goto 4, 3) := by decide +kernel
theorem dX1_numberOf_32 : decode cX1_numberOf 32 = .ok (.iconst 0, 1) := by decide +kernel
theorem dX1_numberOf_33 : decode cX1_numberOf 33 = .ok (.istore 8, 2) := by decide +kernel
theorem dX1_numberOf_35 : decode cX1_numberOf 35 = .ok (.iload 4, 2) := by decide +kernel
theorem dX1_numberOf_37 : decode cX1_numberOf 37 = .ok (.iload 6, 2) := by decide +kernel
theorem dX1_numberOf_39 : decode cX1_numberOf 39 = .ok (.iand, 1) := by decide +kernel
theorem dX1_numberOf_40 : decode cX1_numberOf 40 = .ok (.ifCond .eq 7, 3) := by decide +kernel
theorem dX1_numberOf_43 : decode cX1_numberOf 43 = .ok (.iconst 1, 1) := by decide +kernel
theorem dX1_numberOf_44 : decode cX1_numberOf 44 = .ok (.goto 4, 3) := by decide +kernel
theorem dX1_numberOf_47 : decode cX1_numberOf 47 = .ok (.iconst 0, 1) := by decide +kernel
theorem dX1_numberOf_48 : decode cX1_numberOf 48 = .ok (.istore 9, 2) := by decide +kernel
theorem dX1_numberOf_50 : decode cX1_numberOf 50 = .ok (.iload 8, 2) := by decide +kernel
theorem dX1_numberOf_52 : decode cX1_numberOf 52 = .ok (.ifCond .eq 16, 3) := by decide +kernel
theorem dX1_numberOf_55 : decode cX1_numberOf 55 = .ok (.iload 9, 2) := by decide +kernel
theorem dX1_numberOf_57 : decode cX1_numberOf 57 = .ok (.ifCond .eq 7, 3) := by decide +kernel
theorem dX1_numberOf_60 : decode cX1_numberOf 60 = .ok (.iconst 2, 1) := by decide +kernel
theorem dX1_numberOf_61 : decode cX1_numberOf 61 = .ok (.goto 17, 3) := by decide +kernel
theorem dX1_numberOf_64 : decode cX1_numberOf 64 = .ok (.iconst 3, 1) := by decide +kernel
theorem dX1_numberOf_65 : decode cX1_numberOf 65 = .ok (.goto 13, 3) := by decide +kernel
theorem dX1_numberOf_68 : decode cX1_numberOf 68 = .ok (.iload 9, 2) := by decide +kernel
theorem dX1_numberOf_70 : decode cX1_numberOf 70 = .ok (.ifCond .eq 7, 3) := by decide +kernel
theorem dX1_numberOf_73 : decode cX1_numberOf 73 = .ok (.iconst 1, 1) := by decide +kernel
theorem dX1_numberOf_74 : decode cX1_numberOf 74 = .ok (.goto 4, 3) := by decide +kernel
theorem dX1_numberOf_77 : decode cX1_numberOf 77 = .ok (.iconst 0, 1) := by decide +kernel
theorem dX1_numberOf_78 : decode cX1_numberOf 78 = .ok (.istore 10, 2) := by decide +kernel
theorem dX1_numberOf_80 : decode cX1_numberOf 80 = .ok (.iload_n 3, 1) := by decide +kernel
theorem dX1_numberOf_81 : decode cX1_numberOf 81 = .ok (.istore 11, 2) := by decide +kernel
theorem dX1_numberOf_83 : decode cX1_numberOf 83 = .ok (.iconst 4, 1) := by decide +kernel
theorem dX1_numberOf_84 : decode cX1_numberOf 84 = .ok (.iload 5, 2) := by decide +kernel
theorem dX1_numberOf_86 : decode cX1_numberOf 86 = .ok (.imul, 1) := by decide +kernel
theorem dX1_numberOf_87 : decode cX1_numberOf 87 = .ok (.iload 10, 2) := by decide +kernel
theorem dX1_numberOf_89 : decode cX1_numberOf 89 = .ok (.iadd, 1) := by decide +kernel
theorem dX1_numberOf_90 : decode cX1_numberOf 90 = .ok (.istore 5, 2) := by decide +kernel
theorem dX1_numberOf_92 : decode cX1_numberOf 92 = .ok (.iload 10, 2) := by decide +kernel
theorem dX1_numberOf_94 : decode cX1_numberOf 94 = .ok (.ifCond .ne 10, 3) := by decide +kernel
theorem dX1_numberOf_97 : decode cX1_numberOf 97 = .ok (.iload 4, 2) := by decide +kernel
theorem dX1_numberOf_99 : decode cX1_numberOf 99 = .ok (.istore_n 3, 1) := by decide +kernel
theorem dX1_numberOf_100 : decode cX1_numberOf 100 = .ok (.iload 11, 2) := by decide +kernel
theorem dX1_numberOf_102 : decode cX1_numberOf 102 = .ok (.istore 4, 2) := by decide +kernel
theorem dX1_numberOf_104 : decode cX1_numberOf 104 = .ok (.iload 10, 2) := by decide +kernel
theorem dX1_numberOf_106 : decode cX1_numberOf 106 = .ok (.iconst 3, 1) := by decide +kernel
theorem dX1_numberOf_107 : decode cX1_numberOf 107 = .ok (.if_icmp .ne 16, 3) := by decide +kernel
theorem dX1_numberOf_110 : decode cX1_numberOf 110 = .ok (.bipush 15, 2) := by decide +kernel
theorem dX1_numberOf_112 : decode cX1_numberOf 112 = .ok (.iload 4, 2) := by decide +kernel
theorem dX1_numberOf_114 : decode cX1_numberOf 114 = .ok (.isub, 1) := by decide +kernel
theorem dX1_numberOf_115 : decode cX1_numberOf 115 = .ok (.istore_n 3, 1) := by decide +kernel
theorem dX1_numberOf_116 : decode cX1_numberOf 116 = .ok (.bipush 15, 2) := by decide +kernel
theorem dX1_numberOf_118 : decode cX1_numberOf 118 = .ok (.iload 11, 2) := by decide +kernel
theorem dX1_numberOf_120 : decode cX1_numberOf 120 = .ok (.isub, 1) := by decide +kernel
theorem dX1_numberOf_121 : decode cX1_numberOf 121 = .ok (.istore 4, 2) := by decide +kernel
theorem dX1_numberOf_123 : decode cX1_numberOf 123 = .ok (.iload 6, 2) := by decide +kernel
theorem dX1_numberOf_125 : decode cX1_numberOf 125 = .ok (.iconst 2, 1) := by decide +kernel
theorem dX1_numberOf_126 : decode cX1_numberOf 126 = .ok (.idiv, 1) := by decide +kernel
theorem dX1_numberOf_127 : decode cX1_numberOf 127 = .ok (.istore 6, 2) := by decide +kernel
theorem dX1_numberOf_129 : decode cX1_numberOf 129 = .ok (.iinc 7 1, 3) := by decide +kernel
theorem dX1_numberOf_132 : decode cX1_numberOf 132 = .ok (.goto (-117), 3) := by decide +kernel
theorem dX1_numberOf_135 : decode cX1_numberOf 135 = .ok (.iload 5, 2) := by decide +kernel
theorem dX1_numberOf_137 : decode cX1_numberOf 137 = .ok (.sipush 255, 3) := by decide +kernel
theorem dX1_numberOf_140 : decode cX1_numberOf 140 = .ok (.iand, 1) := by decide +kernel
theorem dX1_numberOf_141 : decode cX1_numberOf 141 = .ok (.ireturn, 1) := by decide +kernel
abbrev cX1_change : ByteArray := prog_3_method_7_code
def yX1_change : MethodName := ⟨RX1, "change", "(IIZ)I"⟩
theorem dX1_change_0 : decode cX1_change 0 = .ok (.iload_n 2, 1) := by decide +kernel
theorem dX1_change_1 : decode cX1_change 1 = .ok (.sipush 1024, 3) := by decide +kernel
theorem dX1_change_4 : decode cX1_change 4 = .ok (.idiv, 1) := by decide +kernel
theorem dX1_change_5 : decode cX1_change 5 = .ok (.istore 4, 2) := by decide +kernel
theorem dX1_change_7 : decode cX1_change 7 = .ok (.iload_n 2, 1) := by decide +kernel
theorem dX1_change_8 : decode cX1_change 8 = .ok (.bipush 32, 2) := by decide +kernel
theorem dX1_change_10 : decode cX1_change 10 = .ok (.idiv, 1) := by decide +kernel
theorem dX1_change_11 : decode cX1_change 11 = .ok (.bipush 32, 2) := by decide +kernel
theorem dX1_change_13 : decode cX1_change 13 = .ok (.irem, 1) := by decide +kernel
theorem dX1_change_14 : decode cX1_change 14 = .ok (.istore 5, 2) := by decide +kernel
theorem dX1_change_16 : decode cX1_change 16 = .ok (.iload_n 2, 1) := by decide +kernel
theorem dX1_change_17 : decode cX1_change 17 = .ok (.bipush 32, 2) := by decide +kernel
theorem dX1_change_19 : decode cX1_change 19 = .ok (.irem, 1) := by decide +kernel
theorem dX1_change_20 : decode cX1_change 20 = .ok (.istore 6, 2) := by decide +kernel
theorem dX1_change_22 : decode cX1_change 22 = .ok (.aload_n 0, 1) := by decide +kernel
theorem dX1_change_23 : decode cX1_change 23 = .ok (.iload_n 1, 1) := by decide +kernel
theorem dX1_change_24 : decode cX1_change 24 = .ok (.invokevirtual 35, 3) := by decide +kernel
theorem dX1_change_27 : decode cX1_change 27 = .ok (.ifCond .eq 37, 3) := by decide +kernel
theorem dX1_change_30 : decode cX1_change 30 = .ok (.iload_n 2, 1) := by decide +kernel
theorem dX1_change_31 : decode cX1_change 31 = .ok (.ifCond .lt 33, 3) := by decide +kernel
theorem dX1_change_34 : decode cX1_change 34 = .ok (.iload 4, 2) := by decide +kernel
theorem dX1_change_36 : decode cX1_change 36 = .ok (.iconst 4, 1) := by decide +kernel
theorem dX1_change_37 : decode cX1_change 37 = .ok (.if_icmp .gt 27, 3) := by decide +kernel
theorem dX1_change_40 : decode cX1_change 40 = .ok (.iload 5, 2) := by decide +kernel
theorem dX1_change_42 : decode cX1_change 42 = .ok (.iconst 1, 1) := by decide +kernel
theorem dX1_change_43 : decode cX1_change 43 = .ok (.iload 4, 2) := by decide +kernel
theorem dX1_change_45 : decode cX1_change 45 = .ok (.bipush 7, 2) := by decide +kernel
theorem dX1_change_47 : decode cX1_change 47 = .ok (.iand, 1) := by decide +kernel
theorem dX1_change_48 : decode cX1_change 48 = .ok (.ishl, 1) := by decide +kernel
theorem dX1_change_49 : decode cX1_change 49 = .ok (.if_icmp .ge 15, 3) := by decide +kernel
theorem dX1_change_52 : decode cX1_change 52 = .ok (.iload 6, 2) := by decide +kernel
theorem dX1_change_54 : decode cX1_change 54 = .ok (.iconst 1, 1) := by decide +kernel
theorem dX1_change_55 : decode cX1_change 55 = .ok (.iload 4, 2) := by decide +kernel
theorem dX1_change_57 : decode cX1_change 57 = .ok (.bipush 7, 2) := by decide +kernel
theorem dX1_change_59 : decode cX1_change 59 = .ok (.iand, 1) := by decide +kernel
theorem dX1_change_60 : decode cX1_change 60 = .ok (.ishl, 1) := by decide +kernel
theorem dX1_change_61 : decode cX1_change 61 = .ok (.if_icmp .lt 5, 3) := by decide +kernel
theorem dX1_change_64 : decode cX1_change 64 = .ok (.iconst (-1), 1) := by decide +kernel
theorem dX1_change_65 : decode cX1_change 65 = .ok (.ireturn, 1) := by decide +kernel
theorem dX1_change_66 : decode cX1_change 66 = .ok (.iconst 0, 1) := by decide +kernel
theorem dX1_change_67 : decode cX1_change 67 = .ok (.istore 7, 2) := by decide +kernel
theorem dX1_change_69 : decode cX1_change 69 = .ok (.iload 7, 2) := by decide +kernel
theorem dX1_change_71 : decode cX1_change 71 = .ok (.sipush 256, 3) := by decide +kernel
theorem dX1_change_74 : decode cX1_change 74 = .ok (.if_icmp .ge 48, 3) := by decide +kernel
theorem dX1_change_77 : decode cX1_change 77 = .ok (.aload_n 0, 1) := by decide +kernel
theorem dX1_change_78 : decode cX1_change 78 = .ok (.getfield 20, 3) := by decide +kernel
theorem dX1_change_81 : decode cX1_change 81 = .ok (.iload 7, 2) := by decide +kernel
theorem dX1_change_83 : decode cX1_change 83 = .ok (.aload_n 0, 1) := by decide +kernel
theorem dX1_change_84 : decode cX1_change 84 = .ok (.iload 7, 2) := by decide +kernel
theorem dX1_change_86 : decode cX1_change 86 = .ok (.iload 4, 2) := by decide +kernel
theorem dX1_change_88 : decode cX1_change 88 = .ok (.iload 5, 2) := by decide +kernel
theorem dX1_change_90 : decode cX1_change 90 = .ok (.iload 6, 2) := by decide +kernel
theorem dX1_change_92 : decode cX1_change 92 = .ok (.invokevirtual 39, 3) := by decide +kernel
theorem dX1_change_95 : decode cX1_change 95 = .ok (.ifCond .eq 7, 3) := by decide +kernel
theorem dX1_change_98 : decode cX1_change 98 = .ok (.iload_n 3, 1) := by decide +kernel
theorem dX1_change_99 : decode cX1_change 99 = .ok (.goto 16, 3) := by decide +kernel
theorem dX1_change_102 : decode cX1_change 102 = .ok (.aload_n 0, 1) := by decide +kernel
theorem dX1_change_103 : decode cX1_change 103 = .ok (.getfield 16, 3) := by decide +kernel
theorem dX1_change_106 : decode cX1_change 106 = .ok (.sipush 256, 3) := by decide +kernel
theorem dX1_change_109 : decode cX1_change 109 = .ok (.iload_n 1, 1) := by decide +kernel
theorem dX1_change_110 : decode cX1_change 110 = .ok (.imul, 1) := by decide +kernel
theorem dX1_change_111 : decode cX1_change 111 = .ok (.iload 7, 2) := by decide +kernel
theorem dX1_change_113 : decode cX1_change 113 = .ok (.iadd, 1) := by decide +kernel
theorem dX1_change_114 : decode cX1_change 114 = .ok (.baload, 1) := by decide +kernel
theorem dX1_change_115 : decode cX1_change 115 = .ok (.bastore, 1) := by decide +kernel
theorem dX1_change_116 : decode cX1_change 116 = .ok (.iinc 7 1, 3) := by decide +kernel
theorem dX1_change_119 : decode cX1_change 119 = .ok (.goto (-50), 3) := by decide +kernel
theorem dX1_change_122 : decode cX1_change 122 = .ok (.aload_n 0, 1) := by decide +kernel
theorem dX1_change_123 : decode cX1_change 123 = .ok (.iload_n 1, 1) := by decide +kernel
theorem dX1_change_124 : decode cX1_change 124 = .ok (.invokevirtual 43, 3) := by decide +kernel
theorem dX1_change_127 : decode cX1_change 127 = .ok (.ireturn, 1) := by decide +kernel
abbrev cX1_isSet : ByteArray := prog_3_method_3_code
def yX1_isSet : MethodName := ⟨RX1, "isSet", "(I)Z"⟩
theorem dX1_isSet_0 : decode cX1_isSet 0 = .ok (.iload_n 1, 1) := by decide +kernel
theorem dX1_isSet_1 : decode cX1_isSet 1 = .ok (.ifCond .lt 12, 3) := by decide +kernel
theorem dX1_isSet_4 : decode cX1_isSet 4 = .ok (.iload_n 1, 1) := by decide +kernel
theorem dX1_isSet_5 : decode cX1_isSet 5 = .ok (.iconst 3, 1) := by decide +kernel
theorem dX1_isSet_6 : decode cX1_isSet 6 = .ok (.if_icmp .gt 7, 3) := by decide +kernel
theorem dX1_isSet_9 : decode cX1_isSet 9 = .ok (.iconst 1, 1) := by decide +kernel
theorem dX1_isSet_10 : decode cX1_isSet 10 = .ok (.goto 4, 3) := by decide +kernel
theorem dX1_isSet_13 : decode cX1_isSet 13 = .ok (.iconst 0, 1) := by decide +kernel
theorem dX1_isSet_14 : decode cX1_isSet 14 = .ok (.ireturn, 1) := by decide +kernel
abbrev cX1_inSquare : ByteArray := prog_3_method_4_code
def yX1_inSquare : MethodName := ⟨RX1, "inSquare", "(IIII)Z"⟩
theorem dX1_inSquare_0 : decode cX1_inSquare 0 = .ok (.bipush 16, 2) := by decide +kernel
theorem dX1_inSquare_2 : decode cX1_inSquare 2 = .ok (.iload_n 2, 1) := by decide +kernel
theorem dX1_inSquare_3 : decode cX1_inSquare 3 = .ok (.ishr, 1) := by decide +kernel
theorem dX1_inSquare_4 : decode cX1_inSquare 4 = .ok (.istore 5, 2) := by decide +kernel
theorem dX1_inSquare_6 : decode cX1_inSquare 6 = .ok (.iload_n 1, 1) := by decide +kernel
theorem dX1_inSquare_7 : decode cX1_inSquare 7 = .ok (.bipush 16, 2) := by decide +kernel
theorem dX1_inSquare_9 : decode cX1_inSquare 9 = .ok (.idiv, 1) := by decide +kernel
theorem dX1_inSquare_10 : decode cX1_inSquare 10 = .ok (.iload_n 3, 1) := by decide +kernel
theorem dX1_inSquare_11 : decode cX1_inSquare 11 = .ok (.iload 5, 2) := by decide +kernel
theorem dX1_inSquare_13 : decode cX1_inSquare 13 = .ok (.imul, 1) := by decide +kernel
theorem dX1_inSquare_14 : decode cX1_inSquare 14 = .ok (.if_icmp .lt 46, 3) := by decide +kernel
theorem dX1_inSquare_17 : decode cX1_inSquare 17 = .ok (.iload_n 1, 1) := by decide +kernel
theorem dX1_inSquare_18 : decode cX1_inSquare 18 = .ok (.bipush 16, 2) := by decide +kernel
theorem dX1_inSquare_20 : decode cX1_inSquare 20 = .ok (.idiv, 1) := by decide +kernel
theorem dX1_inSquare_21 : decode cX1_inSquare 21 = .ok (.iload_n 3, 1) := by decide +kernel
theorem dX1_inSquare_22 : decode cX1_inSquare 22 = .ok (.iconst 1, 1) := by decide +kernel
theorem dX1_inSquare_23 : decode cX1_inSquare 23 = .ok (.iadd, 1) := by decide +kernel
theorem dX1_inSquare_24 : decode cX1_inSquare 24 = .ok (.iload 5, 2) := by decide +kernel
theorem dX1_inSquare_26 : decode cX1_inSquare 26 = .ok (.imul, 1) := by decide +kernel
theorem dX1_inSquare_27 : decode cX1_inSquare 27 = .ok (.if_icmp .ge 33, 3) := by decide +kernel
theorem dX1_inSquare_30 : decode cX1_inSquare 30 = .ok (.iload_n 1, 1) := by decide +kernel
theorem dX1_inSquare_31 : decode cX1_inSquare 31 = .ok (.bipush 16, 2) := by decide +kernel
theorem dX1_inSquare_33 : decode cX1_inSquare 33 = .ok (.irem, 1) := by decide +kernel
theorem dX1_inSquare_34 : decode cX1_inSquare 34 = .ok (.iload 4, 2) := by decide +kernel
theorem dX1_inSquare_36 : decode cX1_inSquare 36 = .ok (.iload 5, 2) := by decide +kernel
theorem dX1_inSquare_38 : decode cX1_inSquare 38 = .ok (.imul, 1) := by decide +kernel
theorem dX1_inSquare_39 : decode cX1_inSquare 39 = .ok (.if_icmp .lt 21, 3) := by decide +kernel
theorem dX1_inSquare_42 : decode cX1_inSquare 42 = .ok (.iload_n 1, 1) := by decide +kernel
theorem dX1_inSquare_43 : decode cX1_inSquare 43 = .ok (.bipush 16, 2) := by decide +kernel
theorem dX1_inSquare_45 : decode cX1_inSquare 45 = .ok (.irem, 1) := by decide +kernel
theorem dX1_inSquare_46 : decode cX1_inSquare 46 = .ok (.iload 4, 2) := by decide +kernel
theorem dX1_inSquare_48 : decode cX1_inSquare 48 = .ok (.iconst 1, 1) := by decide +kernel
theorem dX1_inSquare_49 : decode cX1_inSquare 49 = .ok (.iadd, 1) := by decide +kernel
theorem dX1_inSquare_50 : decode cX1_inSquare 50 = .ok (.iload 5, 2) := by decide +kernel
theorem dX1_inSquare_52 : decode cX1_inSquare 52 = .ok (.imul, 1) := by decide +kernel
theorem dX1_inSquare_53 : decode cX1_inSquare 53 = .ok (.if_icmp .ge 7, 3) := by decide +kernel
theorem dX1_inSquare_56 : decode cX1_inSquare 56 = .ok (.iconst 1, 1) := by decide +kernel
theorem dX1_inSquare_57 : decode cX1_inSquare 57 = .ok (.goto 4, 3) := by decide +kernel
theorem dX1_inSquare_60 : decode cX1_inSquare 60 = .ok (.iconst 0, 1) := by decide +kernel
theorem dX1_inSquare_61 : decode cX1_inSquare 61 = .ok (.ireturn, 1) := by decide +kernel
abbrev cX1_keep : ByteArray := prog_3_method_6_code
def yX1_keep : MethodName := ⟨RX1, "keep", "(I)I"⟩
theorem dX1_keep_0 : decode cX1_keep 0 = .ok (.aload_n 0, 1) := by decide +kernel
theorem dX1_keep_1 : decode cX1_keep 1 = .ok (.invokevirtual 27, 3) := by decide +kernel
theorem dX1_keep_4 : decode cX1_keep 4 = .ok (.bipush 40, 2) := by decide +kernel
theorem dX1_keep_6 : decode cX1_keep 6 = .ok (.if_icmp .le 6, 3) := by decide +kernel
theorem dX1_keep_9 : decode cX1_keep 9 = .ok (.bipush (-2), 2) := by decide +kernel
theorem dX1_keep_11 : decode cX1_keep 11 = .ok (.ireturn, 1) := by decide +kernel
theorem dX1_keep_12 : decode cX1_keep 12 = .ok (.iconst 0, 1) := by decide +kernel
theorem dX1_keep_13 : decode cX1_keep 13 = .ok (.istore_n 2, 1) := by decide +kernel
theorem dX1_keep_14 : decode cX1_keep 14 = .ok (.iload_n 2, 1) := by decide +kernel
theorem dX1_keep_15 : decode cX1_keep 15 = .ok (.sipush 256, 3) := by decide +kernel
theorem dX1_keep_18 : decode cX1_keep 18 = .ok (.if_icmp .ge 27, 3) := by decide +kernel
theorem dX1_keep_21 : decode cX1_keep 21 = .ok (.aload_n 0, 1) := by decide +kernel
theorem dX1_keep_22 : decode cX1_keep 22 = .ok (.getfield 16, 3) := by decide +kernel
theorem dX1_keep_25 : decode cX1_keep 25 = .ok (.sipush 256, 3) := by decide +kernel
theorem dX1_keep_28 : decode cX1_keep 28 = .ok (.iload_n 1, 1) := by decide +kernel
theorem dX1_keep_29 : decode cX1_keep 29 = .ok (.imul, 1) := by decide +kernel
theorem dX1_keep_30 : decode cX1_keep 30 = .ok (.iload_n 2, 1) := by decide +kernel
theorem dX1_keep_31 : decode cX1_keep 31 = .ok (.iadd, 1) := by decide +kernel
theorem dX1_keep_32 : decode cX1_keep 32 = .ok (.aload_n 0, 1) := by decide +kernel
theorem dX1_keep_33 : decode cX1_keep 33 = .ok (.getfield 20, 3) := by decide +kernel
theorem dX1_keep_36 : decode cX1_keep 36 = .ok (.iload_n 2, 1) := by decide +kernel
theorem dX1_keep_37 : decode cX1_keep 37 = .ok (.baload, 1) := by decide +kernel
theorem dX1_keep_38 : decode cX1_keep 38 = .ok (.bastore, 1) := by decide +kernel
theorem dX1_keep_39 : decode cX1_keep 39 = .ok (.iinc 2 1, 3) := by decide +kernel
theorem dX1_keep_42 : decode cX1_keep 42 = .ok (.goto (-28), 3) := by decide +kernel
theorem dX1_keep_45 : decode cX1_keep 45 = .ok (.aload_n 0, 1) := by decide +kernel
theorem dX1_keep_46 : decode cX1_keep 46 = .ok (.iload_n 1, 1) := by decide +kernel
theorem dX1_keep_47 : decode cX1_keep 47 = .ok (.invokevirtual 31, 3) := by decide +kernel
theorem dX1_keep_50 : decode cX1_keep 50 = .ok (.ireturn, 1) := by decide +kernel
abbrev cX1_runs : ByteArray := prog_3_method_5_code
def yX1_runs : MethodName := ⟨RX1, "runs", "()I"⟩
theorem dX1_runs_0 : decode cX1_runs 0 = .ok (.iconst 0, 1) := by decide +kernel
theorem dX1_runs_1 : decode cX1_runs 1 = .ok (.istore_n 1, 1) := by decide +kernel
theorem dX1_runs_2 : decode cX1_runs 2 = .ok (.iconst 0, 1) := by decide +kernel
theorem dX1_runs_3 : decode cX1_runs 3 = .ok (.istore_n 2, 1) := by decide +kernel
theorem dX1_runs_4 : decode cX1_runs 4 = .ok (.iload_n 2, 1) := by decide +kernel
theorem dX1_runs_5 : decode cX1_runs 5 = .ok (.sipush 256, 3) := by decide +kernel
theorem dX1_runs_8 : decode cX1_runs 8 = .ok (.if_icmp .ge 46, 3) := by decide +kernel
theorem dX1_runs_11 : decode cX1_runs 11 = .ok (.aload_n 0, 1) := by decide +kernel
theorem dX1_runs_12 : decode cX1_runs 12 = .ok (.getfield 20, 3) := by decide +kernel
theorem dX1_runs_15 : decode cX1_runs 15 = .ok (.aload_n 0, 1) := by decide +kernel
theorem dX1_runs_16 : decode cX1_runs 16 = .ok (.getfield 13, 3) := by decide +kernel
theorem dX1_runs_19 : decode cX1_runs 19 = .ok (.iload_n 2, 1) := by decide +kernel
theorem dX1_runs_20 : decode cX1_runs 20 = .ok (.iaload, 1) := by decide +kernel
theorem dX1_runs_21 : decode cX1_runs 21 = .ok (.baload, 1) := by decide +kernel
theorem dX1_runs_22 : decode cX1_runs 22 = .ok (.ifCond .eq 26, 3) := by decide +kernel
theorem dX1_runs_25 : decode cX1_runs 25 = .ok (.iload_n 2, 1) := by decide +kernel
theorem dX1_runs_26 : decode cX1_runs 26 = .ok (.ifCond .eq 19, 3) := by decide +kernel
theorem dX1_runs_29 : decode cX1_runs 29 = .ok (.aload_n 0, 1) := by decide +kernel
theorem dX1_runs_30 : decode cX1_runs 30 = .ok (.getfield 20, 3) := by decide +kernel
theorem dX1_runs_33 : decode cX1_runs 33 = .ok (.aload_n 0, 1) := by decide +kernel
theorem dX1_runs_34 : decode cX1_runs 34 = .ok (.getfield 13, 3) := by decide +kernel
theorem dX1_runs_37 : decode cX1_runs 37 = .ok (.iload_n 2, 1) := by decide +kernel
theorem dX1_runs_38 : decode cX1_runs 38 = .ok (.iconst 1, 1) := by decide +kernel
theorem dX1_runs_39 : decode cX1_runs 39 = .ok (.isub, 1) := by decide +kernel
theorem dX1_runs_40 : decode cX1_runs 40 = .ok (.iaload, 1) := by decide +kernel
theorem dX1_runs_41 : decode cX1_runs 41 = .ok (.baload, 1) := by decide +kernel
theorem dX1_runs_42 : decode cX1_runs 42 = .ok (.ifCond .ne 6, 3) := by decide +kernel
theorem dX1_runs_45 : decode cX1_runs 45 = .ok (.iinc 1 1, 3) := by decide +kernel
theorem dX1_runs_48 : decode cX1_runs 48 = .ok (.iinc 2 1, 3) := by decide +kernel
theorem dX1_runs_51 : decode cX1_runs 51 = .ok (.goto (-47), 3) := by decide +kernel
theorem dX1_runs_54 : decode cX1_runs 54 = .ok (.iload_n 1, 1) := by decide +kernel
theorem dX1_runs_55 : decode cX1_runs 55 = .ok (.ireturn, 1) := by decide +kernel
abbrev cX1_cells : ByteArray := prog_3_method_11_code
def yX1_cells : MethodName := ⟨RX1, "cells", "(I)I"⟩
theorem dX1_cells_0 : decode cX1_cells 0 = .ok (.aload_n 0, 1) := by decide +kernel
theorem dX1_cells_1 : decode cX1_cells 1 = .ok (.iload_n 1, 1) := by decide +kernel
theorem dX1_cells_2 : decode cX1_cells 2 = .ok (.invokevirtual 35, 3) := by decide +kernel
theorem dX1_cells_5 : decode cX1_cells 5 = .ok (.ifCond .ne 5, 3) := by decide +kernel
theorem dX1_cells_8 : decode cX1_cells 8 = .ok (.iconst (-1), 1) := by decide +kernel
theorem dX1_cells_9 : decode cX1_cells 9 = .ok (.ireturn, 1) := by decide +kernel
theorem dX1_cells_10 : decode cX1_cells 10 = .ok (.iconst 0, 1) := by decide +kernel
theorem dX1_cells_11 : decode cX1_cells 11 = .ok (.istore_n 2, 1) := by decide +kernel
theorem dX1_cells_12 : decode cX1_cells 12 = .ok (.iconst 0, 1) := by decide +kernel
theorem dX1_cells_13 : decode cX1_cells 13 = .ok (.istore_n 3, 1) := by decide +kernel
theorem dX1_cells_14 : decode cX1_cells 14 = .ok (.iload_n 3, 1) := by decide +kernel
theorem dX1_cells_15 : decode cX1_cells 15 = .ok (.sipush 256, 3) := by decide +kernel
theorem dX1_cells_18 : decode cX1_cells 18 = .ok (.if_icmp .ge 27, 3) := by decide +kernel
theorem dX1_cells_21 : decode cX1_cells 21 = .ok (.aload_n 0, 1) := by decide +kernel
theorem dX1_cells_22 : decode cX1_cells 22 = .ok (.getfield 16, 3) := by decide +kernel
theorem dX1_cells_25 : decode cX1_cells 25 = .ok (.sipush 256, 3) := by decide +kernel
theorem dX1_cells_28 : decode cX1_cells 28 = .ok (.iload_n 1, 1) := by decide +kernel
theorem dX1_cells_29 : decode cX1_cells 29 = .ok (.imul, 1) := by decide +kernel
theorem dX1_cells_30 : decode cX1_cells 30 = .ok (.iload_n 3, 1) := by decide +kernel
theorem dX1_cells_31 : decode cX1_cells 31 = .ok (.iadd, 1) := by decide +kernel
theorem dX1_cells_32 : decode cX1_cells 32 = .ok (.baload, 1) := by decide +kernel
theorem dX1_cells_33 : decode cX1_cells 33 = .ok (.ifCond .eq 6, 3) := by decide +kernel
theorem dX1_cells_36 : decode cX1_cells 36 = .ok (.iinc 2 1, 3) := by decide +kernel
theorem dX1_cells_39 : decode cX1_cells 39 = .ok (.iinc 3 1, 3) := by decide +kernel
theorem dX1_cells_42 : decode cX1_cells 42 = .ok (.goto (-28), 3) := by decide +kernel
theorem dX1_cells_45 : decode cX1_cells 45 = .ok (.iload_n 2, 1) := by decide +kernel
theorem dX1_cells_46 : decode cX1_cells 46 = .ok (.ireturn, 1) := by decide +kernel
abbrev cX1_combine : ByteArray := prog_3_method_8_code
def yX1_combine : MethodName := ⟨RX1, "combine", "(IIII)I"⟩
theorem dX1_combine_0 : decode cX1_combine 0 = .ok (.aload_n 0, 1) := by decide +kernel
theorem dX1_combine_1 : decode cX1_combine 1 = .ok (.iload_n 1, 1) := by decide +kernel
theorem dX1_combine_2 : decode cX1_combine 2 = .ok (.invokevirtual 35, 3) := by decide +kernel
theorem dX1_combine_5 : decode cX1_combine 5 = .ok (.ifCond .eq 29, 3) := by decide +kernel
theorem dX1_combine_8 : decode cX1_combine 8 = .ok (.aload_n 0, 1) := by decide +kernel
theorem dX1_combine_9 : decode cX1_combine 9 = .ok (.iload_n 3, 1) := by decide +kernel
theorem dX1_combine_10 : decode cX1_combine 10 = .ok (.invokevirtual 35, 3) := by decide +kernel
theorem dX1_combine_13 : decode cX1_combine 13 = .ok (.ifCond .eq 21, 3) := by decide +kernel
theorem dX1_combine_16 : decode cX1_combine 16 = .ok (.aload_n 0, 1) := by decide +kernel
theorem dX1_combine_17 : decode cX1_combine 17 = .ok (.iload 4, 2) := by decide +kernel
theorem dX1_combine_19 : decode cX1_combine 19 = .ok (.invokevirtual 35, 3) := by decide +kernel
theorem dX1_combine_22 : decode cX1_combine 22 = .ok (.ifCond .eq 12, 3) := by decide +kernel
theorem dX1_combine_25 : decode cX1_combine 25 = .ok (.iload_n 2, 1) := by decide +kernel
theorem dX1_combine_26 : decode cX1_combine 26 = .ok (.ifCond .lt 8, 3) := by decide +kernel
theorem dX1_combine_29 : decode cX1_combine 29 = .ok (.iload_n 2, 1) := by decide +kernel
theorem dX1_combine_30 : decode cX1_combine 30 = .ok (.iconst 2, 1) := by decide +kernel
theorem dX1_combine_31 : decode cX1_combine 31 = .ok (.if_icmp .le 5, 3) := by decide +kernel
theorem dX1_combine_34 : decode cX1_combine 34 = .ok (.iconst (-1), 1) := by decide +kernel
theorem dX1_combine_35 : decode cX1_combine 35 = .ok (.ireturn, 1) := by decide +kernel
theorem dX1_combine_36 : decode cX1_combine 36 = .ok (.iconst 0, 1) := by decide +kernel
theorem dX1_combine_37 : decode cX1_combine 37 = .ok (.istore 5, 2) := by decide +kernel
theorem dX1_combine_39 : decode cX1_combine 39 = .ok (.iload 5, 2) := by decide +kernel
theorem dX1_combine_41 : decode cX1_combine 41 = .ok (.sipush 256, 3) := by decide +kernel
theorem dX1_combine_44 : decode cX1_combine 44 = .ok (.if_icmp .ge 107, 3) := by decide +kernel
theorem dX1_combine_47 : decode cX1_combine 47 = .ok (.aload_n 0, 1) := by decide +kernel
theorem dX1_combine_48 : decode cX1_combine 48 = .ok (.getfield 16, 3) := by decide +kernel
theorem dX1_combine_51 : decode cX1_combine 51 = .ok (.sipush 256, 3) := by decide +kernel
theorem dX1_combine_54 : decode cX1_combine 54 = .ok (.iload_n 3, 1) := by decide +kernel
theorem dX1_combine_55 : decode cX1_combine 55 = .ok (.imul, 1) := by decide +kernel
theorem dX1_combine_56 : decode cX1_combine 56 = .ok (.iload 5, 2) := by decide +kernel
theorem dX1_combine_58 : decode cX1_combine 58 = .ok (.iadd, 1) := by decide +kernel
theorem dX1_combine_59 : decode cX1_combine 59 = .ok (.baload, 1) := by decide +kernel
theorem dX1_combine_60 : decode cX1_combine 60 = .ok (.istore 6, 2) := by decide +kernel
theorem dX1_combine_62 : decode cX1_combine 62 = .ok (.aload_n 0, 1) := by decide +kernel
theorem dX1_combine_63 : decode cX1_combine 63 = .ok (.getfield 16, 3) := by decide +kernel
theorem dX1_combine_66 : decode cX1_combine 66 = .ok (.sipush 256, 3) := by decide +kernel
theorem dX1_combine_69 : decode cX1_combine 69 = .ok (.iload 4, 2) := by decide +kernel
theorem dX1_combine_71 : decode cX1_combine 71 = .ok (.imul, 1) := by decide +kernel
theorem dX1_combine_72 : decode cX1_combine 72 = .ok (.iload 5, 2) := by decide +kernel
theorem dX1_combine_74 : decode cX1_combine 74 = .ok (.iadd, 1) := by decide +kernel
theorem dX1_combine_75 : decode cX1_combine 75 = .ok (.baload, 1) := by decide +kernel
theorem dX1_combine_76 : decode cX1_combine 76 = .ok (.istore 7, 2) := by decide +kernel
theorem dX1_combine_78 : decode cX1_combine 78 = .ok (.aload_n 0, 1) := by decide +kernel
theorem dX1_combine_79 : decode cX1_combine 79 = .ok (.getfield 20, 3) := by decide +kernel
theorem dX1_combine_82 : decode cX1_combine 82 = .ok (.iload 5, 2) := by decide +kernel
theorem dX1_combine_84 : decode cX1_combine 84 = .ok (.iload_n 2, 1) := by decide +kernel
theorem dX1_combine_85 : decode cX1_combine 85 = .ok (.ifCond .ne 21, 3) := by decide +kernel
theorem dX1_combine_88 : decode cX1_combine 88 = .ok (.iload 6, 2) := by decide +kernel
theorem dX1_combine_90 : decode cX1_combine 90 = .ok (.ifCond .eq 12, 3) := by decide +kernel
theorem dX1_combine_93 : decode cX1_combine 93 = .ok (.iload 7, 2) := by decide +kernel
theorem dX1_combine_95 : decode cX1_combine 95 = .ok (.ifCond .eq 7, 3) := by decide +kernel
theorem dX1_combine_98 : decode cX1_combine 98 = .ok (.iconst 1, 1) := by decide +kernel
theorem dX1_combine_99 : decode cX1_combine 99 = .ok (.goto 45, 3) := by decide +kernel
theorem dX1_combine_102 : decode cX1_combine 102 = .ok (.iconst 0, 1) := by decide +kernel
theorem dX1_combine_103 : decode cX1_combine 103 = .ok (.goto 41, 3) := by decide +kernel
theorem dX1_combine_106 : decode cX1_combine 106 = .ok (.iload_n 2, 1) := by decide +kernel
theorem dX1_combine_107 : decode cX1_combine 107 = .ok (.iconst 1, 1) := by decide +kernel
theorem dX1_combine_108 : decode cX1_combine 108 = .ok (.if_icmp .ne 21, 3) := by decide +kernel
theorem dX1_combine_111 : decode cX1_combine 111 = .ok (.iload 6, 2) := by decide +kernel
theorem dX1_combine_113 : decode cX1_combine 113 = .ok (.ifCond .ne 8, 3) := by decide +kernel
theorem dX1_combine_116 : decode cX1_combine 116 = .ok (.iload 7, 2) := by decide +kernel
theorem dX1_combine_118 : decode cX1_combine 118 = .ok (.ifCond .eq 7, 3) := by decide +kernel
theorem dX1_combine_121 : decode cX1_combine 121 = .ok (.iconst 1, 1) := by decide +kernel
theorem dX1_combine_122 : decode cX1_combine 122 = .ok (.goto 22, 3) := by decide +kernel
theorem dX1_combine_125 : decode cX1_combine 125 = .ok (.iconst 0, 1) := by decide +kernel
theorem dX1_combine_126 : decode cX1_combine 126 = .ok (.goto 18, 3) := by decide +kernel
theorem dX1_combine_129 : decode cX1_combine 129 = .ok (.iload 6, 2) := by decide +kernel
theorem dX1_combine_131 : decode cX1_combine 131 = .ok (.ifCond .eq 12, 3) := by decide +kernel
theorem dX1_combine_134 : decode cX1_combine 134 = .ok (.iload 7, 2) := by decide +kernel
theorem dX1_combine_136 : decode cX1_combine 136 = .ok (.ifCond .ne 7, 3) := by decide +kernel
theorem dX1_combine_139 : decode cX1_combine 139 = .ok (.iconst 1, 1) := by decide +kernel
theorem dX1_combine_140 : decode cX1_combine 140 = .ok (.goto 4, 3) := by decide +kernel
theorem dX1_combine_143 : decode cX1_combine 143 = .ok (.iconst 0, 1) := by decide +kernel
theorem dX1_combine_144 : decode cX1_combine 144 = .ok (.bastore, 1) := by decide +kernel
theorem dX1_combine_145 : decode cX1_combine 145 = .ok (.iinc 5 1, 3) := by decide +kernel
theorem dX1_combine_148 : decode cX1_combine 148 = .ok (.goto (-109), 3) := by decide +kernel
theorem dX1_combine_151 : decode cX1_combine 151 = .ok (.aload_n 0, 1) := by decide +kernel
theorem dX1_combine_152 : decode cX1_combine 152 = .ok (.iload_n 1, 1) := by decide +kernel
theorem dX1_combine_153 : decode cX1_combine 153 = .ok (.invokevirtual 43, 3) := by decide +kernel
theorem dX1_combine_156 : decode cX1_combine 156 = .ok (.ireturn, 1) := by decide +kernel
abbrev cX1_has : ByteArray := prog_3_method_10_code
def yX1_has : MethodName := ⟨RX1, "has", "(III)Z"⟩
theorem dX1_has_0 : decode cX1_has 0 = .ok (.aload_n 0, 1) := by decide +kernel
theorem dX1_has_1 : decode cX1_has 1 = .ok (.iload_n 1, 1) := by decide +kernel
theorem dX1_has_2 : decode cX1_has 2 = .ok (.invokevirtual 35, 3) := by decide +kernel
theorem dX1_has_5 : decode cX1_has 5 = .ok (.ifCond .eq 36, 3) := by decide +kernel
theorem dX1_has_8 : decode cX1_has 8 = .ok (.aload_n 0, 1) := by decide +kernel
theorem dX1_has_9 : decode cX1_has 9 = .ok (.iload_n 2, 1) := by decide +kernel
theorem dX1_has_10 : decode cX1_has 10 = .ok (.iload_n 3, 1) := by decide +kernel
theorem dX1_has_11 : decode cX1_has 11 = .ok (.invokevirtual 46, 3) := by decide +kernel
theorem dX1_has_14 : decode cX1_has 14 = .ok (.ifCond .eq 27, 3) := by decide +kernel
theorem dX1_has_17 : decode cX1_has 17 = .ok (.aload_n 0, 1) := by decide +kernel
theorem dX1_has_18 : decode cX1_has 18 = .ok (.getfield 16, 3) := by decide +kernel
theorem dX1_has_21 : decode cX1_has 21 = .ok (.sipush 256, 3) := by decide +kernel
theorem dX1_has_24 : decode cX1_has 24 = .ok (.iload_n 1, 1) := by decide +kernel
theorem dX1_has_25 : decode cX1_has 25 = .ok (.imul, 1) := by decide +kernel
theorem dX1_has_26 : decode cX1_has 26 = .ok (.bipush 16, 2) := by decide +kernel
theorem dX1_has_28 : decode cX1_has 28 = .ok (.iload_n 2, 1) := by decide +kernel
theorem dX1_has_29 : decode cX1_has 29 = .ok (.imul, 1) := by decide +kernel
theorem dX1_has_30 : decode cX1_has 30 = .ok (.iadd, 1) := by decide +kernel
theorem dX1_has_31 : decode cX1_has 31 = .ok (.iload_n 3, 1) := by decide +kernel
theorem dX1_has_32 : decode cX1_has 32 = .ok (.iadd, 1) := by decide +kernel
theorem dX1_has_33 : decode cX1_has 33 = .ok (.baload, 1) := by decide +kernel
theorem dX1_has_34 : decode cX1_has 34 = .ok (.ifCond .eq 7, 3) := by decide +kernel
theorem dX1_has_37 : decode cX1_has 37 = .ok (.iconst 1, 1) := by decide +kernel
theorem dX1_has_38 : decode cX1_has 38 = .ok (.goto 4, 3) := by decide +kernel
theorem dX1_has_41 : decode cX1_has 41 = .ok (.iconst 0, 1) := by decide +kernel
theorem dX1_has_42 : decode cX1_has 42 = .ok (.ireturn, 1) := by decide +kernel
abbrev cX1_isCell : ByteArray := prog_3_method_9_code
def yX1_isCell : MethodName := ⟨RX1, "isCell", "(II)Z"⟩
theorem dX1_isCell_0 : decode cX1_isCell 0 = .ok (.iload_n 1, 1) := by decide +kernel
theorem dX1_isCell_1 : decode cX1_isCell 1 = .ok (.ifCond .lt 23, 3) := by decide +kernel
theorem dX1_isCell_4 : decode cX1_isCell 4 = .ok (.iload_n 1, 1) := by decide +kernel
theorem dX1_isCell_5 : decode cX1_isCell 5 = .ok (.bipush 15, 2) := by decide +kernel
theorem dX1_isCell_7 : decode cX1_isCell 7 = .ok (.if_icmp .gt 17, 3) := by decide +kernel
theorem dX1_isCell_10 : decode cX1_isCell 10 = .ok (.iload_n 2, 1) := by decide +kernel
theorem dX1_isCell_11 : decode cX1_isCell 11 = .ok (.ifCond .lt 13, 3) := by decide +kernel
theorem dX1_isCell_14 : decode cX1_isCell 14 = .ok (.iload_n 2, 1) := by decide +kernel
theorem dX1_isCell_15 : decode cX1_isCell 15 = .ok (.bipush 15, 2) := by decide +kernel
theorem dX1_isCell_17 : decode cX1_isCell 17 = .ok (.if_icmp .gt 7, 3) := by decide +kernel
theorem dX1_isCell_20 : decode cX1_isCell 20 = .ok (.iconst 1, 1) := by decide +kernel
theorem dX1_isCell_21 : decode cX1_isCell 21 = .ok (.goto 4, 3) := by decide +kernel
theorem dX1_isCell_24 : decode cX1_isCell 24 = .ok (.iconst 0, 1) := by decide +kernel
theorem dX1_isCell_25 : decode cX1_isCell 25 = .ok (.ireturn, 1) := by decide +kernel
abbrev cX1_stretches : ByteArray := prog_3_method_12_code
def yX1_stretches : MethodName := ⟨RX1, "stretches", "(I)I"⟩
theorem dX1_stretches_0 : decode cX1_stretches 0 = .ok (.aload_n 0, 1) := by decide +kernel
theorem dX1_stretches_1 : decode cX1_stretches 1 = .ok (.iload_n 1, 1) := by decide +kernel
theorem dX1_stretches_2 : decode cX1_stretches 2 = .ok (.invokevirtual 35, 3) := by decide +kernel
theorem dX1_stretches_5 : decode cX1_stretches 5 = .ok (.ifCond .ne 5, 3) := by decide +kernel
theorem dX1_stretches_8 : decode cX1_stretches 8 = .ok (.iconst (-1), 1) := by decide +kernel
theorem dX1_stretches_9 : decode cX1_stretches 9 = .ok (.ireturn, 1) := by decide +kernel
theorem dX1_stretches_10 : decode cX1_stretches 10 = .ok (.iconst 0, 1) := by decide +kernel
theorem dX1_stretches_11 : decode cX1_stretches 11 = .ok (.istore_n 2, 1) := by decide +kernel
theorem dX1_stretches_12 : decode cX1_stretches 12 = .ok (.iload_n 2, 1) := by decide +kernel
theorem dX1_stretches_13 : decode cX1_stretches 13 = .ok (.sipush 256, 3) := by decide +kernel
theorem dX1_stretches_16 : decode cX1_stretches 16 = .ok (.if_icmp .ge 27, 3) := by decide +kernel
theorem dX1_stretches_19 : decode cX1_stretches 19 = .ok (.aload_n 0, 1) := by decide +kernel
theorem dX1_stretches_20 : decode cX1_stretches 20 = .ok (.getfield 20, 3) := by decide +kernel
theorem dX1_stretches_23 : decode cX1_stretches 23 = .ok (.iload_n 2, 1) := by decide +kernel
theorem dX1_stretches_24 : decode cX1_stretches 24 = .ok (.aload_n 0, 1) := by decide +kernel
theorem dX1_stretches_25 : decode cX1_stretches 25 = .ok (.getfield 16, 3) := by decide +kernel
theorem dX1_stretches_28 : decode cX1_stretches 28 = .ok (.sipush 256, 3) := by decide +kernel
theorem dX1_stretches_31 : decode cX1_stretches 31 = .ok (.iload_n 1, 1) := by decide +kernel
theorem dX1_stretches_32 : decode cX1_stretches 32 = .ok (.imul, 1) := by decide +kernel
theorem dX1_stretches_33 : decode cX1_stretches 33 = .ok (.iload_n 2, 1) := by decide +kernel
theorem dX1_stretches_34 : decode cX1_stretches 34 = .ok (.iadd, 1) := by decide +kernel
theorem dX1_stretches_35 : decode cX1_stretches 35 = .ok (.baload, 1) := by decide +kernel
theorem dX1_stretches_36 : decode cX1_stretches 36 = .ok (.bastore, 1) := by decide +kernel
theorem dX1_stretches_37 : decode cX1_stretches 37 = .ok (.iinc 2 1, 3) := by decide +kernel
theorem dX1_stretches_40 : decode cX1_stretches 40 = .ok (.goto (-28), 3) := by decide +kernel
theorem dX1_stretches_43 : decode cX1_stretches 43 = .ok (.aload_n 0, 1) := by decide +kernel
theorem dX1_stretches_44 : decode cX1_stretches 44 = .ok (.invokevirtual 27, 3) := by decide +kernel
theorem dX1_stretches_47 : decode cX1_stretches 47 = .ok (.ireturn, 1) := by decide +kernel
abbrev cX1_pieces : ByteArray := prog_3_method_16_code
def yX1_pieces : MethodName := ⟨RX1, "pieces", "(I)I"⟩
theorem dX1_pieces_0 : decode cX1_pieces 0 = .ok (.aload_n 0, 1) := by decide +kernel
theorem dX1_pieces_1 : decode cX1_pieces 1 = .ok (.iload_n 1, 1) := by decide +kernel
theorem dX1_pieces_2 : decode cX1_pieces 2 = .ok (.invokevirtual 35, 3) := by decide +kernel
theorem dX1_pieces_5 : decode cX1_pieces 5 = .ok (.ifCond .ne 5, 3) := by decide +kernel
theorem dX1_pieces_8 : decode cX1_pieces 8 = .ok (.iconst (-1), 1) := by decide +kernel
theorem dX1_pieces_9 : decode cX1_pieces 9 = .ok (.ireturn, 1) := by decide +kernel
theorem dX1_pieces_10 : decode cX1_pieces 10 = .ok (.iconst 0, 1) := by decide +kernel
theorem dX1_pieces_11 : decode cX1_pieces 11 = .ok (.istore_n 2, 1) := by decide +kernel
theorem dX1_pieces_12 : decode cX1_pieces 12 = .ok (.iconst 0, 1) := by decide +kernel
theorem dX1_pieces_13 : decode cX1_pieces 13 = .ok (.istore_n 3, 1) := by decide +kernel
theorem dX1_pieces_14 : decode cX1_pieces 14 = .ok (.iload_n 3, 1) := by decide +kernel
theorem dX1_pieces_15 : decode cX1_pieces 15 = .ok (.sipush 256, 3) := by decide +kernel
theorem dX1_pieces_18 : decode cX1_pieces 18 = .ok (.if_icmp .ge 61, 3) := by decide +kernel
theorem dX1_pieces_21 : decode cX1_pieces 21 = .ok (.aload_n 0, 1) := by decide +kernel
theorem dX1_pieces_22 : decode cX1_pieces 22 = .ok (.getfield 16, 3) := by decide +kernel
theorem dX1_pieces_25 : decode cX1_pieces 25 = .ok (.sipush 256, 3) := by decide +kernel
theorem dX1_pieces_28 : decode cX1_pieces 28 = .ok (.iload_n 1, 1) := by decide +kernel
theorem dX1_pieces_29 : decode cX1_pieces 29 = .ok (.imul, 1) := by decide +kernel
theorem dX1_pieces_30 : decode cX1_pieces 30 = .ok (.aload_n 0, 1) := by decide +kernel
theorem dX1_pieces_31 : decode cX1_pieces 31 = .ok (.getfield 13, 3) := by decide +kernel
theorem dX1_pieces_34 : decode cX1_pieces 34 = .ok (.iload_n 3, 1) := by decide +kernel
theorem dX1_pieces_35 : decode cX1_pieces 35 = .ok (.iaload, 1) := by decide +kernel
theorem dX1_pieces_36 : decode cX1_pieces 36 = .ok (.iadd, 1) := by decide +kernel
theorem dX1_pieces_37 : decode cX1_pieces 37 = .ok (.baload, 1) := by decide +kernel
theorem dX1_pieces_38 : decode cX1_pieces 38 = .ok (.ifCond .eq 35, 3) := by decide +kernel
theorem dX1_pieces_41 : decode cX1_pieces 41 = .ok (.aload_n 0, 1) := by decide +kernel
theorem dX1_pieces_42 : decode cX1_pieces 42 = .ok (.iload_n 1, 1) := by decide +kernel
theorem dX1_pieces_43 : decode cX1_pieces 43 = .ok (.aload_n 0, 1) := by decide +kernel
theorem dX1_pieces_44 : decode cX1_pieces 44 = .ok (.getfield 13, 3) := by decide +kernel
theorem dX1_pieces_47 : decode cX1_pieces 47 = .ok (.iload_n 3, 1) := by decide +kernel
theorem dX1_pieces_48 : decode cX1_pieces 48 = .ok (.iaload, 1) := by decide +kernel
theorem dX1_pieces_49 : decode cX1_pieces 49 = .ok (.invokevirtual 53, 3) := by decide +kernel
theorem dX1_pieces_52 : decode cX1_pieces 52 = .ok (.istore 4, 2) := by decide +kernel
theorem dX1_pieces_54 : decode cX1_pieces 54 = .ok (.aload_n 0, 1) := by decide +kernel
theorem dX1_pieces_55 : decode cX1_pieces 55 = .ok (.aload_n 0, 1) := by decide +kernel
theorem dX1_pieces_56 : decode cX1_pieces 56 = .ok (.getfield 13, 3) := by decide +kernel
theorem dX1_pieces_59 : decode cX1_pieces 59 = .ok (.iload_n 3, 1) := by decide +kernel
theorem dX1_pieces_60 : decode cX1_pieces 60 = .ok (.iaload, 1) := by decide +kernel
theorem dX1_pieces_61 : decode cX1_pieces 61 = .ok (.iload 4, 2) := by decide +kernel
theorem dX1_pieces_63 : decode cX1_pieces 63 = .ok (.invokevirtual 56, 3) := by decide +kernel
theorem dX1_pieces_66 : decode cX1_pieces 66 = .ok (.iload_n 3, 1) := by decide +kernel
theorem dX1_pieces_67 : decode cX1_pieces 67 = .ok (.if_icmp .ne 6, 3) := by decide +kernel
theorem dX1_pieces_70 : decode cX1_pieces 70 = .ok (.iinc 2 1, 3) := by decide +kernel
theorem dX1_pieces_73 : decode cX1_pieces 73 = .ok (.iinc 3 1, 3) := by decide +kernel
theorem dX1_pieces_76 : decode cX1_pieces 76 = .ok (.goto (-62), 3) := by decide +kernel
theorem dX1_pieces_79 : decode cX1_pieces 79 = .ok (.iload_n 2, 1) := by decide +kernel
theorem dX1_pieces_80 : decode cX1_pieces 80 = .ok (.ireturn, 1) := by decide +kernel
abbrev cX1_levelAt : ByteArray := prog_3_method_14_code
def yX1_levelAt : MethodName := ⟨RX1, "levelAt", "(II)I"⟩
theorem dX1_levelAt_0 : decode cX1_levelAt 0 = .ok (.iconst 0, 1) := by decide +kernel
theorem dX1_levelAt_1 : decode cX1_levelAt 1 = .ok (.istore_n 3, 1) := by decide +kernel
theorem dX1_levelAt_2 : decode cX1_levelAt 2 = .ok (.iload_n 3, 1) := by decide +kernel
theorem dX1_levelAt_3 : decode cX1_levelAt 3 = .ok (.iconst 4, 1) := by decide +kernel
theorem dX1_levelAt_4 : decode cX1_levelAt 4 = .ok (.if_icmp .ge 45, 3) := by decide +kernel
theorem dX1_levelAt_7 : decode cX1_levelAt 7 = .ok (.bipush 16, 2) := by decide +kernel
theorem dX1_levelAt_9 : decode cX1_levelAt 9 = .ok (.iload_n 3, 1) := by decide +kernel
theorem dX1_levelAt_10 : decode cX1_levelAt 10 = .ok (.ishr, 1) := by decide +kernel
theorem dX1_levelAt_11 : decode cX1_levelAt 11 = .ok (.istore 4, 2) := by decide +kernel
theorem dX1_levelAt_13 : decode cX1_levelAt 13 = .ok (.iload 4, 2) := by decide +kernel
theorem dX1_levelAt_15 : decode cX1_levelAt 15 = .ok (.ifCond .le 28, 3) := by decide +kernel
theorem dX1_levelAt_18 : decode cX1_levelAt 18 = .ok (.aload_n 0, 1) := by decide +kernel
theorem dX1_levelAt_19 : decode cX1_levelAt 19 = .ok (.iload_n 1, 1) := by decide +kernel
theorem dX1_levelAt_20 : decode cX1_levelAt 20 = .ok (.iload_n 3, 1) := by decide +kernel
theorem dX1_levelAt_21 : decode cX1_levelAt 21 = .ok (.iload_n 2, 1) := by decide +kernel
theorem dX1_levelAt_22 : decode cX1_levelAt 22 = .ok (.bipush 16, 2) := by decide +kernel
theorem dX1_levelAt_24 : decode cX1_levelAt 24 = .ok (.idiv, 1) := by decide +kernel
theorem dX1_levelAt_25 : decode cX1_levelAt 25 = .ok (.iload 4, 2) := by decide +kernel
theorem dX1_levelAt_27 : decode cX1_levelAt 27 = .ok (.idiv, 1) := by decide +kernel
theorem dX1_levelAt_28 : decode cX1_levelAt 28 = .ok (.iload_n 2, 1) := by decide +kernel
theorem dX1_levelAt_29 : decode cX1_levelAt 29 = .ok (.bipush 16, 2) := by decide +kernel
theorem dX1_levelAt_31 : decode cX1_levelAt 31 = .ok (.irem, 1) := by decide +kernel
theorem dX1_levelAt_32 : decode cX1_levelAt 32 = .ok (.iload 4, 2) := by decide +kernel
theorem dX1_levelAt_34 : decode cX1_levelAt 34 = .ok (.idiv, 1) := by decide +kernel
theorem dX1_levelAt_35 : decode cX1_levelAt 35 = .ok (.invokevirtual 50, 3) := by decide +kernel
theorem dX1_levelAt_38 : decode cX1_levelAt 38 = .ok (.ifCond .eq 5, 3) := by decide +kernel
theorem dX1_levelAt_41 : decode cX1_levelAt 41 = .ok (.iload_n 3, 1) := by decide +kernel
theorem dX1_levelAt_42 : decode cX1_levelAt 42 = .ok (.ireturn, 1) := by decide +kernel
theorem dX1_levelAt_43 : decode cX1_levelAt 43 = .ok (.iinc 3 1, 3) := by decide +kernel
theorem dX1_levelAt_46 : decode cX1_levelAt 46 = .ok (.goto (-44), 3) := by decide +kernel
theorem dX1_levelAt_49 : decode cX1_levelAt 49 = .ok (.iconst 4, 1) := by decide +kernel
theorem dX1_levelAt_50 : decode cX1_levelAt 50 = .ok (.ireturn, 1) := by decide +kernel
abbrev cX1_whole : ByteArray := prog_3_method_13_code
def yX1_whole : MethodName := ⟨RX1, "whole", "(IIII)Z"⟩
theorem dX1_whole_0 : decode cX1_whole 0 = .ok (.iconst 0, 1) := by decide +kernel
theorem dX1_whole_1 : decode cX1_whole 1 = .ok (.istore 5, 2) := by decide +kernel
theorem dX1_whole_3 : decode cX1_whole 3 = .ok (.iload 5, 2) := by decide +kernel
theorem dX1_whole_5 : decode cX1_whole 5 = .ok (.sipush 256, 3) := by decide +kernel
theorem dX1_whole_8 : decode cX1_whole 8 = .ok (.if_icmp .ge 40, 3) := by decide +kernel
theorem dX1_whole_11 : decode cX1_whole 11 = .ok (.aload_n 0, 1) := by decide +kernel
theorem dX1_whole_12 : decode cX1_whole 12 = .ok (.iload 5, 2) := by decide +kernel
theorem dX1_whole_14 : decode cX1_whole 14 = .ok (.iload_n 2, 1) := by decide +kernel
theorem dX1_whole_15 : decode cX1_whole 15 = .ok (.iload_n 3, 1) := by decide +kernel
theorem dX1_whole_16 : decode cX1_whole 16 = .ok (.iload 4, 2) := by decide +kernel
theorem dX1_whole_18 : decode cX1_whole 18 = .ok (.invokevirtual 39, 3) := by decide +kernel
theorem dX1_whole_21 : decode cX1_whole 21 = .ok (.ifCond .eq 21, 3) := by decide +kernel
theorem dX1_whole_24 : decode cX1_whole 24 = .ok (.aload_n 0, 1) := by decide +kernel
theorem dX1_whole_25 : decode cX1_whole 25 = .ok (.getfield 16, 3) := by decide +kernel
theorem dX1_whole_28 : decode cX1_whole 28 = .ok (.sipush 256, 3) := by decide +kernel
theorem dX1_whole_31 : decode cX1_whole 31 = .ok (.iload_n 1, 1) := by decide +kernel
theorem dX1_whole_32 : decode cX1_whole 32 = .ok (.imul, 1) := by decide +kernel
theorem dX1_whole_33 : decode cX1_whole 33 = .ok (.iload 5, 2) := by decide +kernel
theorem dX1_whole_35 : decode cX1_whole 35 = .ok (.iadd, 1) := by decide +kernel
theorem dX1_whole_36 : decode cX1_whole 36 = .ok (.baload, 1) := by decide +kernel
theorem dX1_whole_37 : decode cX1_whole 37 = .ok (.ifCond .ne 5, 3) := by decide +kernel
theorem dX1_whole_40 : decode cX1_whole 40 = .ok (.iconst 0, 1) := by decide +kernel
theorem dX1_whole_41 : decode cX1_whole 41 = .ok (.ireturn, 1) := by decide +kernel
theorem dX1_whole_42 : decode cX1_whole 42 = .ok (.iinc 5 1, 3) := by decide +kernel
theorem dX1_whole_45 : decode cX1_whole 45 = .ok (.goto (-42), 3) := by decide +kernel
theorem dX1_whole_48 : decode cX1_whole 48 = .ok (.iconst 1, 1) := by decide +kernel
theorem dX1_whole_49 : decode cX1_whole 49 = .ok (.ireturn, 1) := by decide +kernel
abbrev cX1_firstNumber : ByteArray := prog_3_method_15_code
def yX1_firstNumber : MethodName := ⟨RX1, "firstNumber", "(II)I"⟩
theorem dX1_firstNumber_0 : decode cX1_firstNumber 0 = .ok (.bipush 16, 2) := by decide +kernel
theorem dX1_firstNumber_2 : decode cX1_firstNumber 2 = .ok (.iload_n 2, 1) := by decide +kernel
theorem dX1_firstNumber_3 : decode cX1_firstNumber 3 = .ok (.bipush 7, 2) := by decide +kernel
theorem dX1_firstNumber_5 : decode cX1_firstNumber 5 = .ok (.iand, 1) := by decide +kernel
theorem dX1_firstNumber_6 : decode cX1_firstNumber 6 = .ok (.ishr, 1) := by decide +kernel
theorem dX1_firstNumber_7 : decode cX1_firstNumber 7 = .ok (.istore_n 3, 1) := by decide +kernel
theorem dX1_firstNumber_8 : decode cX1_firstNumber 8 = .ok (.sipush 255, 3) := by decide +kernel
theorem dX1_firstNumber_11 : decode cX1_firstNumber 11 = .ok (.istore 4, 2) := by decide +kernel
theorem dX1_firstNumber_13 : decode cX1_firstNumber 13 = .ok (.iconst 0, 1) := by decide +kernel
theorem dX1_firstNumber_14 : decode cX1_firstNumber 14 = .ok (.istore 5, 2) := by decide +kernel
theorem dX1_firstNumber_16 : decode cX1_firstNumber 16 = .ok (.iload 5, 2) := by decide +kernel
theorem dX1_firstNumber_18 : decode cX1_firstNumber 18 = .ok (.sipush 256, 3) := by decide +kernel
theorem dX1_firstNumber_21 : decode cX1_firstNumber 21 = .ok (.if_icmp .ge 56, 3) := by decide +kernel
theorem dX1_firstNumber_24 : decode cX1_firstNumber 24 = .ok (.iload_n 3, 1) := by decide +kernel
theorem dX1_firstNumber_25 : decode cX1_firstNumber 25 = .ok (.ifCond .le 46, 3) := by decide +kernel
theorem dX1_firstNumber_28 : decode cX1_firstNumber 28 = .ok (.aload_n 0, 1) := by decide +kernel
theorem dX1_firstNumber_29 : decode cX1_firstNumber 29 = .ok (.iload 5, 2) := by decide +kernel
theorem dX1_firstNumber_31 : decode cX1_firstNumber 31 = .ok (.iload_n 2, 1) := by decide +kernel
theorem dX1_firstNumber_32 : decode cX1_firstNumber 32 = .ok (.iload_n 1, 1) := by decide +kernel
theorem dX1_firstNumber_33 : decode cX1_firstNumber 33 = .ok (.bipush 16, 2) := by decide +kernel
theorem dX1_firstNumber_35 : decode cX1_firstNumber 35 = .ok (.idiv, 1) := by decide +kernel
theorem dX1_firstNumber_36 : decode cX1_firstNumber 36 = .ok (.iload_n 3, 1) := by decide +kernel
theorem dX1_firstNumber_37 : decode cX1_firstNumber 37 = .ok (.idiv, 1) := by decide +kernel
theorem dX1_firstNumber_38 : decode cX1_firstNumber 38 = .ok (.iload_n 1, 1) := by decide +kernel
theorem dX1_firstNumber_39 : decode cX1_firstNumber 39 = .ok (.bipush 16, 2) := by decide +kernel
theorem dX1_firstNumber_41 : decode cX1_firstNumber 41 = .ok (.irem, 1) := by decide +kernel
theorem dX1_firstNumber_42 : decode cX1_firstNumber 42 = .ok (.iload_n 3, 1) := by decide +kernel
theorem dX1_firstNumber_43 : decode cX1_firstNumber 43 = .ok (.idiv, 1) := by decide +kernel
theorem dX1_firstNumber_44 : decode cX1_firstNumber 44 = .ok (.invokevirtual 39, 3) := by decide +kernel
theorem dX1_firstNumber_47 : decode cX1_firstNumber 47 = .ok (.ifCond .eq 24, 3) := by decide +kernel
theorem dX1_firstNumber_50 : decode cX1_firstNumber 50 = .ok (.aload_n 0, 1) := by decide +kernel
theorem dX1_firstNumber_51 : decode cX1_firstNumber 51 = .ok (.getfield 7, 3) := by decide +kernel
theorem dX1_firstNumber_54 : decode cX1_firstNumber 54 = .ok (.iload 5, 2) := by decide +kernel
theorem dX1_firstNumber_56 : decode cX1_firstNumber 56 = .ok (.iaload, 1) := by decide +kernel
theorem dX1_firstNumber_57 : decode cX1_firstNumber 57 = .ok (.iload 4, 2) := by decide +kernel
theorem dX1_firstNumber_59 : decode cX1_firstNumber 59 = .ok (.if_icmp .ge 12, 3) := by decide +kernel
theorem dX1_firstNumber_62 : decode cX1_firstNumber 62 = .ok (.aload_n 0, 1) := by decide +kernel
theorem dX1_firstNumber_63 : decode cX1_firstNumber 63 = .ok (.getfield 7, 3) := by decide +kernel
theorem dX1_firstNumber_66 : decode cX1_firstNumber 66 = .ok (.iload 5, 2) := by decide +kernel
theorem dX1_firstNumber_68 : decode cX1_firstNumber 68 = .ok (.iaload, 1) := by decide +kernel
theorem dX1_firstNumber_69 : decode cX1_firstNumber 69 = .ok (.istore 4, 2) := by decide +kernel
theorem dX1_firstNumber_71 : decode cX1_firstNumber 71 = .ok (.iinc 5 1, 3) := by decide +kernel
theorem dX1_firstNumber_74 : decode cX1_firstNumber 74 = .ok (.goto (-58), 3) := by decide +kernel
theorem dX1_firstNumber_77 : decode cX1_firstNumber 77 = .ok (.iload 4, 2) := by decide +kernel
theorem dX1_firstNumber_79 : decode cX1_firstNumber 79 = .ok (.ireturn, 1) := by decide +kernel
abbrev cX1_piece : ByteArray := prog_3_method_17_code
def yX1_piece : MethodName := ⟨RX1, "piece", "(II)I"⟩
theorem dX1_piece_0 : decode cX1_piece 0 = .ok (.aload_n 0, 1) := by decide +kernel
theorem dX1_piece_1 : decode cX1_piece 1 = .ok (.iload_n 1, 1) := by decide +kernel
theorem dX1_piece_2 : decode cX1_piece 2 = .ok (.invokevirtual 35, 3) := by decide +kernel
theorem dX1_piece_5 : decode cX1_piece 5 = .ok (.ifCond .ne 5, 3) := by decide +kernel
theorem dX1_piece_8 : decode cX1_piece 8 = .ok (.iconst (-1), 1) := by decide +kernel
theorem dX1_piece_9 : decode cX1_piece 9 = .ok (.ireturn, 1) := by decide +kernel
theorem dX1_piece_10 : decode cX1_piece 10 = .ok (.iconst 0, 1) := by decide +kernel
theorem dX1_piece_11 : decode cX1_piece 11 = .ok (.istore_n 3, 1) := by decide +kernel
theorem dX1_piece_12 : decode cX1_piece 12 = .ok (.iconst 0, 1) := by decide +kernel
theorem dX1_piece_13 : decode cX1_piece 13 = .ok (.istore 4, 2) := by decide +kernel
theorem dX1_piece_15 : decode cX1_piece 15 = .ok (.iload 4, 2) := by decide +kernel
theorem dX1_piece_17 : decode cX1_piece 17 = .ok (.sipush 256, 3) := by decide +kernel
theorem dX1_piece_20 : decode cX1_piece 20 = .ok (.if_icmp .ge 80, 3) := by decide +kernel
theorem dX1_piece_23 : decode cX1_piece 23 = .ok (.aload_n 0, 1) := by decide +kernel
theorem dX1_piece_24 : decode cX1_piece 24 = .ok (.getfield 16, 3) := by decide +kernel
theorem dX1_piece_27 : decode cX1_piece 27 = .ok (.sipush 256, 3) := by decide +kernel
theorem dX1_piece_30 : decode cX1_piece 30 = .ok (.iload_n 1, 1) := by decide +kernel
theorem dX1_piece_31 : decode cX1_piece 31 = .ok (.imul, 1) := by decide +kernel
theorem dX1_piece_32 : decode cX1_piece 32 = .ok (.aload_n 0, 1) := by decide +kernel
theorem dX1_piece_33 : decode cX1_piece 33 = .ok (.getfield 13, 3) := by decide +kernel
theorem dX1_piece_36 : decode cX1_piece 36 = .ok (.iload 4, 2) := by decide +kernel
theorem dX1_piece_38 : decode cX1_piece 38 = .ok (.iaload, 1) := by decide +kernel
theorem dX1_piece_39 : decode cX1_piece 39 = .ok (.iadd, 1) := by decide +kernel
theorem dX1_piece_40 : decode cX1_piece 40 = .ok (.baload, 1) := by decide +kernel
theorem dX1_piece_41 : decode cX1_piece 41 = .ok (.ifCond .eq 53, 3) := by decide +kernel
theorem dX1_piece_44 : decode cX1_piece 44 = .ok (.aload_n 0, 1) := by decide +kernel
theorem dX1_piece_45 : decode cX1_piece 45 = .ok (.iload_n 1, 1) := by decide +kernel
theorem dX1_piece_46 : decode cX1_piece 46 = .ok (.aload_n 0, 1) := by decide +kernel
theorem dX1_piece_47 : decode cX1_piece 47 = .ok (.getfield 13, 3) := by decide +kernel
theorem dX1_piece_50 : decode cX1_piece 50 = .ok (.iload 4, 2) := by decide +kernel
theorem dX1_piece_52 : decode cX1_piece 52 = .ok (.iaload, 1) := by decide +kernel
theorem dX1_piece_53 : decode cX1_piece 53 = .ok (.invokevirtual 53, 3) := by decide +kernel
theorem dX1_piece_56 : decode cX1_piece 56 = .ok (.istore 5, 2) := by decide +kernel
theorem dX1_piece_58 : decode cX1_piece 58 = .ok (.aload_n 0, 1) := by decide +kernel
theorem dX1_piece_59 : decode cX1_piece 59 = .ok (.aload_n 0, 1) := by decide +kernel
theorem dX1_piece_60 : decode cX1_piece 60 = .ok (.getfield 13, 3) := by decide +kernel
theorem dX1_piece_63 : decode cX1_piece 63 = .ok (.iload 4, 2) := by decide +kernel
theorem dX1_piece_65 : decode cX1_piece 65 = .ok (.iaload, 1) := by decide +kernel
theorem dX1_piece_66 : decode cX1_piece 66 = .ok (.iload 5, 2) := by decide +kernel
theorem dX1_piece_68 : decode cX1_piece 68 = .ok (.invokevirtual 56, 3) := by decide +kernel
theorem dX1_piece_71 : decode cX1_piece 71 = .ok (.iload 4, 2) := by decide +kernel
theorem dX1_piece_73 : decode cX1_piece 73 = .ok (.if_icmp .ne 21, 3) := by decide +kernel
theorem dX1_piece_76 : decode cX1_piece 76 = .ok (.iload_n 3, 1) := by decide +kernel
theorem dX1_piece_77 : decode cX1_piece 77 = .ok (.iload_n 2, 1) := by decide +kernel
theorem dX1_piece_78 : decode cX1_piece 78 = .ok (.if_icmp .ne 13, 3) := by decide +kernel
theorem dX1_piece_81 : decode cX1_piece 81 = .ok (.sipush 256, 3) := by decide +kernel
theorem dX1_piece_84 : decode cX1_piece 84 = .ok (.iload 5, 2) := by decide +kernel
theorem dX1_piece_86 : decode cX1_piece 86 = .ok (.imul, 1) := by decide +kernel
theorem dX1_piece_87 : decode cX1_piece 87 = .ok (.iload 4, 2) := by decide +kernel
theorem dX1_piece_89 : decode cX1_piece 89 = .ok (.iadd, 1) := by decide +kernel
theorem dX1_piece_90 : decode cX1_piece 90 = .ok (.ireturn, 1) := by decide +kernel
theorem dX1_piece_91 : decode cX1_piece 91 = .ok (.iinc 3 1, 3) := by decide +kernel
theorem dX1_piece_94 : decode cX1_piece 94 = .ok (.iinc 4 1, 3) := by decide +kernel
theorem dX1_piece_97 : decode cX1_piece 97 = .ok (.goto (-82), 3) := by decide +kernel
theorem dX1_piece_100 : decode cX1_piece 100 = .ok (.bipush (-3), 2) := by decide +kernel
theorem dX1_piece_102 : decode cX1_piece 102 = .ok (.ireturn, 1) := by decide +kernel
abbrev cX1_number : ByteArray := prog_3_method_18_code
def yX1_number : MethodName := ⟨RX1, "number", "(II)I"⟩
theorem dX1_number_0 : decode cX1_number 0 = .ok (.aload_n 0, 1) := by decide +kernel
theorem dX1_number_1 : decode cX1_number 1 = .ok (.iload_n 1, 1) := by decide +kernel
theorem dX1_number_2 : decode cX1_number 2 = .ok (.iload_n 2, 1) := by decide +kernel
theorem dX1_number_3 : decode cX1_number 3 = .ok (.invokevirtual 46, 3) := by decide +kernel
theorem dX1_number_6 : decode cX1_number 6 = .ok (.ifCond .eq 17, 3) := by decide +kernel
theorem dX1_number_9 : decode cX1_number 9 = .ok (.aload_n 0, 1) := by decide +kernel
theorem dX1_number_10 : decode cX1_number 10 = .ok (.getfield 7, 3) := by decide +kernel
theorem dX1_number_13 : decode cX1_number 13 = .ok (.bipush 16, 2) := by decide +kernel
theorem dX1_number_15 : decode cX1_number 15 = .ok (.iload_n 1, 1) := by decide +kernel
theorem dX1_number_16 : decode cX1_number 16 = .ok (.imul, 1) := by decide +kernel
theorem dX1_number_17 : decode cX1_number 17 = .ok (.iload_n 2, 1) := by decide +kernel
theorem dX1_number_18 : decode cX1_number 18 = .ok (.iadd, 1) := by decide +kernel
theorem dX1_number_19 : decode cX1_number 19 = .ok (.iaload, 1) := by decide +kernel
theorem dX1_number_20 : decode cX1_number 20 = .ok (.goto 4, 3) := by decide +kernel
theorem dX1_number_23 : decode cX1_number 23 = .ok (.iconst (-1), 1) := by decide +kernel
theorem dX1_number_24 : decode cX1_number 24 = .ok (.ireturn, 1) := by decide +kernel
abbrev cX1_place : ByteArray := prog_3_method_19_code
def yX1_place : MethodName := ⟨RX1, "place", "(I)I"⟩
theorem dX1_place_0 : decode cX1_place 0 = .ok (.iload_n 1, 1) := by decide +kernel
theorem dX1_place_1 : decode cX1_place 1 = .ok (.ifCond .lt 19, 3) := by decide +kernel
theorem dX1_place_4 : decode cX1_place 4 = .ok (.iload_n 1, 1) := by decide +kernel
theorem dX1_place_5 : decode cX1_place 5 = .ok (.sipush 255, 3) := by decide +kernel
theorem dX1_place_8 : decode cX1_place 8 = .ok (.if_icmp .gt 12, 3) := by decide +kernel
theorem dX1_place_11 : decode cX1_place 11 = .ok (.aload_n 0, 1) := by decide +kernel
theorem dX1_place_12 : decode cX1_place 12 = .ok (.getfield 13, 3) := by decide +kernel
theorem dX1_place_15 : decode cX1_place 15 = .ok (.iload_n 1, 1) := by decide +kernel
theorem dX1_place_16 : decode cX1_place 16 = .ok (.iaload, 1) := by decide +kernel
theorem dX1_place_17 : decode cX1_place 17 = .ok (.goto 4, 3) := by decide +kernel
theorem dX1_place_20 : decode cX1_place 20 = .ok (.iconst (-1), 1) := by decide +kernel
theorem dX1_place_21 : decode cX1_place 21 = .ok (.ireturn, 1) := by decide +kernel
abbrev cX1_nth : ByteArray := prog_3_method_20_code
def yX1_nth : MethodName := ⟨RX1, "nth", "(II)I"⟩
theorem dX1_nth_0 : decode cX1_nth 0 = .ok (.aload_n 0, 1) := by decide +kernel
theorem dX1_nth_1 : decode cX1_nth 1 = .ok (.iload_n 1, 1) := by decide +kernel
theorem dX1_nth_2 : decode cX1_nth 2 = .ok (.invokevirtual 35, 3) := by decide +kernel
theorem dX1_nth_5 : decode cX1_nth 5 = .ok (.ifCond .ne 5, 3) := by decide +kernel
theorem dX1_nth_8 : decode cX1_nth 8 = .ok (.iconst (-1), 1) := by decide +kernel
theorem dX1_nth_9 : decode cX1_nth 9 = .ok (.ireturn, 1) := by decide +kernel
theorem dX1_nth_10 : decode cX1_nth 10 = .ok (.iconst 0, 1) := by decide +kernel
theorem dX1_nth_11 : decode cX1_nth 11 = .ok (.istore_n 3, 1) := by decide +kernel
theorem dX1_nth_12 : decode cX1_nth 12 = .ok (.iconst 0, 1) := by decide +kernel
theorem dX1_nth_13 : decode cX1_nth 13 = .ok (.istore 4, 2) := by decide +kernel
theorem dX1_nth_15 : decode cX1_nth 15 = .ok (.iload 4, 2) := by decide +kernel
theorem dX1_nth_17 : decode cX1_nth 17 = .ok (.sipush 256, 3) := by decide +kernel
theorem dX1_nth_20 : decode cX1_nth 20 = .ok (.if_icmp .ge 46, 3) := by decide +kernel
theorem dX1_nth_23 : decode cX1_nth 23 = .ok (.aload_n 0, 1) := by decide +kernel
theorem dX1_nth_24 : decode cX1_nth 24 = .ok (.getfield 16, 3) := by decide +kernel
theorem dX1_nth_27 : decode cX1_nth 27 = .ok (.sipush 256, 3) := by decide +kernel
theorem dX1_nth_30 : decode cX1_nth 30 = .ok (.iload_n 1, 1) := by decide +kernel
theorem dX1_nth_31 : decode cX1_nth 31 = .ok (.imul, 1) := by decide +kernel
theorem dX1_nth_32 : decode cX1_nth 32 = .ok (.aload_n 0, 1) := by decide +kernel
theorem dX1_nth_33 : decode cX1_nth 33 = .ok (.getfield 13, 3) := by decide +kernel
theorem dX1_nth_36 : decode cX1_nth 36 = .ok (.iload 4, 2) := by decide +kernel
theorem dX1_nth_38 : decode cX1_nth 38 = .ok (.iaload, 1) := by decide +kernel
theorem dX1_nth_39 : decode cX1_nth 39 = .ok (.iadd, 1) := by decide +kernel
theorem dX1_nth_40 : decode cX1_nth 40 = .ok (.baload, 1) := by decide +kernel
theorem dX1_nth_41 : decode cX1_nth 41 = .ok (.ifCond .eq 19, 3) := by decide +kernel
theorem dX1_nth_44 : decode cX1_nth 44 = .ok (.iload_n 3, 1) := by decide +kernel
theorem dX1_nth_45 : decode cX1_nth 45 = .ok (.iload_n 2, 1) := by decide +kernel
theorem dX1_nth_46 : decode cX1_nth 46 = .ok (.if_icmp .ne 11, 3) := by decide +kernel
theorem dX1_nth_49 : decode cX1_nth 49 = .ok (.aload_n 0, 1) := by decide +kernel
theorem dX1_nth_50 : decode cX1_nth 50 = .ok (.getfield 13, 3) := by decide +kernel
theorem dX1_nth_53 : decode cX1_nth 53 = .ok (.iload 4, 2) := by decide +kernel
theorem dX1_nth_55 : decode cX1_nth 55 = .ok (.iaload, 1) := by decide +kernel
theorem dX1_nth_56 : decode cX1_nth 56 = .ok (.ireturn, 1) := by decide +kernel
theorem dX1_nth_57 : decode cX1_nth 57 = .ok (.iinc 3 1, 3) := by decide +kernel
theorem dX1_nth_60 : decode cX1_nth 60 = .ok (.iinc 4 1, 3) := by decide +kernel
theorem dX1_nth_63 : decode cX1_nth 63 = .ok (.goto (-48), 3) := by decide +kernel
theorem dX1_nth_66 : decode cX1_nth 66 = .ok (.bipush (-3), 2) := by decide +kernel
theorem dX1_nth_68 : decode cX1_nth 68 = .ok (.ireturn, 1) := by decide +kernel
abbrev cX1_touched : ByteArray := prog_3_method_22_code
def yX1_touched : MethodName := ⟨RX1, "touched", "(II)I"⟩
theorem dX1_touched_0 : decode cX1_touched 0 = .ok (.aload_n 0, 1) := by decide +kernel
theorem dX1_touched_1 : decode cX1_touched 1 = .ok (.iload_n 1, 1) := by decide +kernel
theorem dX1_touched_2 : decode cX1_touched 2 = .ok (.invokevirtual 35, 3) := by decide +kernel
theorem dX1_touched_5 : decode cX1_touched 5 = .ok (.ifCond .eq 12, 3) := by decide +kernel
theorem dX1_touched_8 : decode cX1_touched 8 = .ok (.iload_n 2, 1) := by decide +kernel
theorem dX1_touched_9 : decode cX1_touched 9 = .ok (.ifCond .lt 8, 3) := by decide +kernel
theorem dX1_touched_12 : decode cX1_touched 12 = .ok (.iload_n 2, 1) := by decide +kernel
theorem dX1_touched_13 : decode cX1_touched 13 = .ok (.iconst 4, 1) := by decide +kernel
theorem dX1_touched_14 : decode cX1_touched 14 = .ok (.if_icmp .le 5, 3) := by decide +kernel
theorem dX1_touched_17 : decode cX1_touched 17 = .ok (.iconst (-1), 1) := by decide +kernel
theorem dX1_touched_18 : decode cX1_touched 18 = .ok (.ireturn, 1) := by decide +kernel
theorem dX1_touched_19 : decode cX1_touched 19 = .ok (.iconst 1, 1) := by decide +kernel
theorem dX1_touched_20 : decode cX1_touched 20 = .ok (.iload_n 2, 1) := by decide +kernel
theorem dX1_touched_21 : decode cX1_touched 21 = .ok (.ishl, 1) := by decide +kernel
theorem dX1_touched_22 : decode cX1_touched 22 = .ok (.istore_n 3, 1) := by decide +kernel
theorem dX1_touched_23 : decode cX1_touched 23 = .ok (.iconst 0, 1) := by decide +kernel
theorem dX1_touched_24 : decode cX1_touched 24 = .ok (.istore 4, 2) := by decide +kernel
theorem dX1_touched_26 : decode cX1_touched 26 = .ok (.iconst 0, 1) := by decide +kernel
theorem dX1_touched_27 : decode cX1_touched 27 = .ok (.istore 5, 2) := by decide +kernel
theorem dX1_touched_29 : decode cX1_touched 29 = .ok (.iload 5, 2) := by decide +kernel
theorem dX1_touched_31 : decode cX1_touched 31 = .ok (.iload_n 3, 1) := by decide +kernel
theorem dX1_touched_32 : decode cX1_touched 32 = .ok (.if_icmp .ge 40, 3) := by decide +kernel
theorem dX1_touched_35 : decode cX1_touched 35 = .ok (.iconst 0, 1) := by decide +kernel
theorem dX1_touched_36 : decode cX1_touched 36 = .ok (.istore 6, 2) := by decide +kernel
theorem dX1_touched_38 : decode cX1_touched 38 = .ok (.iload 6, 2) := by decide +kernel
theorem dX1_touched_40 : decode cX1_touched 40 = .ok (.iload_n 3, 1) := by decide +kernel
theorem dX1_touched_41 : decode cX1_touched 41 = .ok (.if_icmp .ge 25, 3) := by decide +kernel
theorem dX1_touched_44 : decode cX1_touched 44 = .ok (.aload_n 0, 1) := by decide +kernel
theorem dX1_touched_45 : decode cX1_touched 45 = .ok (.iload_n 1, 1) := by decide +kernel
theorem dX1_touched_46 : decode cX1_touched 46 = .ok (.iload_n 2, 1) := by decide +kernel
theorem dX1_touched_47 : decode cX1_touched 47 = .ok (.iload 5, 2) := by decide +kernel
theorem dX1_touched_49 : decode cX1_touched 49 = .ok (.iload 6, 2) := by decide +kernel
theorem dX1_touched_51 : decode cX1_touched 51 = .ok (.invokevirtual 59, 3) := by decide +kernel
theorem dX1_touched_54 : decode cX1_touched 54 = .ok (.ifCond .eq 6, 3) := by decide +kernel
theorem dX1_touched_57 : decode cX1_touched 57 = .ok (.iinc 4 1, 3) := by decide +kernel
theorem dX1_touched_60 : decode cX1_touched 60 = .ok (.iinc 6 1, 3) := by decide +kernel
theorem dX1_touched_63 : decode cX1_touched 63 = .ok (.goto (-25), 3) := by decide +kernel
theorem dX1_touched_66 : decode cX1_touched 66 = .ok (.iinc 5 1, 3) := by decide +kernel
theorem dX1_touched_69 : decode cX1_touched 69 = .ok (.goto (-40), 3) := by decide +kernel
theorem dX1_touched_72 : decode cX1_touched 72 = .ok (.iload 4, 2) := by decide +kernel
theorem dX1_touched_74 : decode cX1_touched 74 = .ok (.ireturn, 1) := by decide +kernel
abbrev cX1_some : ByteArray := prog_3_method_21_code
def yX1_some : MethodName := ⟨RX1, "some", "(IIII)Z"⟩
theorem dX1_some_0 : decode cX1_some 0 = .ok (.iconst 0, 1) := by decide +kernel
theorem dX1_some_1 : decode cX1_some 1 = .ok (.istore 5, 2) := by decide +kernel
theorem dX1_some_3 : decode cX1_some 3 = .ok (.iload 5, 2) := by decide +kernel
theorem dX1_some_5 : decode cX1_some 5 = .ok (.sipush 256, 3) := by decide +kernel
theorem dX1_some_8 : decode cX1_some 8 = .ok (.if_icmp .ge 40, 3) := by decide +kernel
theorem dX1_some_11 : decode cX1_some 11 = .ok (.aload_n 0, 1) := by decide +kernel
theorem dX1_some_12 : decode cX1_some 12 = .ok (.getfield 16, 3) := by decide +kernel
theorem dX1_some_15 : decode cX1_some 15 = .ok (.sipush 256, 3) := by decide +kernel
theorem dX1_some_18 : decode cX1_some 18 = .ok (.iload_n 1, 1) := by decide +kernel
theorem dX1_some_19 : decode cX1_some 19 = .ok (.imul, 1) := by decide +kernel
theorem dX1_some_20 : decode cX1_some 20 = .ok (.iload 5, 2) := by decide +kernel
theorem dX1_some_22 : decode cX1_some 22 = .ok (.iadd, 1) := by decide +kernel
theorem dX1_some_23 : decode cX1_some 23 = .ok (.baload, 1) := by decide +kernel
theorem dX1_some_24 : decode cX1_some 24 = .ok (.ifCond .eq 18, 3) := by decide +kernel
theorem dX1_some_27 : decode cX1_some 27 = .ok (.aload_n 0, 1) := by decide +kernel
theorem dX1_some_28 : decode cX1_some 28 = .ok (.iload 5, 2) := by decide +kernel
theorem dX1_some_30 : decode cX1_some 30 = .ok (.iload_n 2, 1) := by decide +kernel
theorem dX1_some_31 : decode cX1_some 31 = .ok (.iload_n 3, 1) := by decide +kernel
theorem dX1_some_32 : decode cX1_some 32 = .ok (.iload 4, 2) := by decide +kernel
theorem dX1_some_34 : decode cX1_some 34 = .ok (.invokevirtual 39, 3) := by decide +kernel
theorem dX1_some_37 : decode cX1_some 37 = .ok (.ifCond .eq 5, 3) := by decide +kernel
theorem dX1_some_40 : decode cX1_some 40 = .ok (.iconst 1, 1) := by decide +kernel
theorem dX1_some_41 : decode cX1_some 41 = .ok (.ireturn, 1) := by decide +kernel
theorem dX1_some_42 : decode cX1_some 42 = .ok (.iinc 5 1, 3) := by decide +kernel
theorem dX1_some_45 : decode cX1_some 45 = .ok (.goto (-42), 3) := by decide +kernel
theorem dX1_some_48 : decode cX1_some 48 = .ok (.iconst 0, 1) := by decide +kernel
theorem dX1_some_49 : decode cX1_some 49 = .ok (.ireturn, 1) := by decide +kernel
theorem q20 : (Jvm.Cond.initialized "CellUnionModel") ∈ lw_all := lw_g (lw_at lw_m0 2 rfl) rfl
theorem q134 : (Jvm.Cond.instantiable "CellUnionModel" (4 : Nat)) ∈ lw_all := lw_g (lw_at lw_m0 116 rfl) rfl
theorem q136 : (Jvm.Cond.instanceMethod ({ cls := "CellUnionModel", name := "<init>", desc := "()V" } : Jvm.MethodName)) ∈ lw_all := lw_g (lw_at lw_m0 118 rfl) rfl
theorem q137 : (Jvm.Cond.code ({ cls := "CellUnionModel", name := "<init>", desc := "()V" } : Jvm.MethodName) prog_3_method_1_code (2 : Nat) (Option.none : Option Jvm.ClassFile.FieldType)) ∈ lw_all := lw_g (lw_at lw_m0 119 rfl) rfl
theorem q138 : (Jvm.Cond.methodLink "CellUnionModel" (1 : Nat) ({ cls := "java/lang/Object", name := "<init>", desc := "()V" } : Jvm.MethodName)) ∈ lw_all := lw_g (lw_at lw_m0 120 rfl) rfl
theorem q139 : (Jvm.Cond.methodLink "CellUnionModel" (23 : Nat) ({ cls := "CellUnionModel", name := "numberOf", desc := "(II)I" } : Jvm.MethodName)) ∈ lw_all := lw_g (lw_at lw_m0 121 rfl) rfl
theorem q140 : (Jvm.Cond.privateMethod ({ cls := "CellUnionModel", name := "numberOf", desc := "(II)I" } : Jvm.MethodName)) ∈ lw_tbl := lw_at lw_m0 122 rfl
theorem q141 : (Jvm.Cond.instanceMethod ({ cls := "CellUnionModel", name := "numberOf", desc := "(II)I" } : Jvm.MethodName)) ∈ lw_all := lw_g (lw_at lw_m0 123 rfl) rfl
theorem q142 : (Jvm.Cond.code ({ cls := "CellUnionModel", name := "numberOf", desc := "(II)I" } : Jvm.MethodName) prog_3_method_2_code (12 : Nat) (Option.some Jvm.ClassFile.FieldType.int)) ∈ lw_all := lw_g (lw_at lw_m0 124 rfl) rfl
theorem q143 : (Jvm.Cond.fieldLink "CellUnionModel" (7 : Nat) "CellUnionModel" "numbers" "[I") ∈ lw_all := lw_g (lw_at lw_m0 125 rfl) rfl
theorem q144 : (Jvm.Cond.fieldLink "CellUnionModel" (13 : Nat) "CellUnionModel" "places" "[I") ∈ lw_all := lw_g (lw_at lw_m0 126 rfl) rfl
theorem q145 : (Jvm.Cond.fieldLink "CellUnionModel" (16 : Nat) "CellUnionModel" "mark" "[Z") ∈ lw_all := lw_g (lw_at lw_m0 127 rfl) rfl
theorem q146 : (Jvm.Cond.fieldLink "CellUnionModel" (20 : Nat) "CellUnionModel" "then" "[Z") ∈ lw_all := lw_g (lw_at lw_m0 128 rfl) rfl
theorem q147 : (Jvm.Cond.lays "CellUnionModel" "CellUnionModel" "numbers" "[I") ∈ lw_all := lw_g (lw_at lw_m0 129 rfl) rfl
theorem q148 : (Jvm.Cond.soleField "CellUnionModel" "numbers") ∈ lw_all := lw_g (lw_at lw_m0 130 rfl) rfl
theorem q149 : (Jvm.Cond.lays "CellUnionModel" "CellUnionModel" "places" "[I") ∈ lw_all := lw_g (lw_at lw_m0 131 rfl) rfl
theorem q150 : (Jvm.Cond.soleField "CellUnionModel" "places") ∈ lw_all := lw_g (lw_at lw_m0 132 rfl) rfl
theorem q151 : (Jvm.Cond.lays "CellUnionModel" "CellUnionModel" "mark" "[Z") ∈ lw_all := lw_g (lw_at lw_m0 133 rfl) rfl
theorem q152 : (Jvm.Cond.soleField "CellUnionModel" "mark") ∈ lw_all := lw_g (lw_at lw_m0 134 rfl) rfl
theorem q153 : (Jvm.Cond.lays "CellUnionModel" "CellUnionModel" "then" "[Z") ∈ lw_all := lw_g (lw_at lw_m0 135 rfl) rfl
theorem q154 : (Jvm.Cond.soleField "CellUnionModel" "then") ∈ lw_all := lw_g (lw_at lw_m0 136 rfl) rfl
theorem q155 : (Jvm.Cond.superclass "CellUnionModel" "java/lang/Object") ∈ lw_all := lw_g (lw_at lw_m0 137 rfl) rfl
theorem q159 : (Jvm.Cond.instanceMethod ({ cls := "CellUnionModel", name := "change", desc := "(IIZ)I" } : Jvm.MethodName)) ∈ lw_all := lw_g (lw_at lw_m0 141 rfl) rfl
theorem q160 : (Jvm.Cond.selects "CellUnionModel" ({ cls := "CellUnionModel", name := "change", desc := "(IIZ)I" } : Jvm.MethodName) ({ cls := "CellUnionModel", name := "change", desc := "(IIZ)I" } : Jvm.MethodName)) ∈ lw_all := lw_g (lw_at lw_m0 142 rfl) rfl
theorem q161 : (Jvm.Cond.code ({ cls := "CellUnionModel", name := "change", desc := "(IIZ)I" } : Jvm.MethodName) prog_3_method_7_code (8 : Nat) (Option.some Jvm.ClassFile.FieldType.int)) ∈ lw_all := lw_g (lw_at lw_m0 143 rfl) rfl
theorem q162 : (Jvm.Cond.methodLink "CellUnionModel" (35 : Nat) ({ cls := "CellUnionModel", name := "isSet", desc := "(I)Z" } : Jvm.MethodName)) ∈ lw_all := lw_g (lw_at lw_m0 144 rfl) rfl
theorem q163 : (Jvm.Cond.privateMethod ({ cls := "CellUnionModel", name := "isSet", desc := "(I)Z" } : Jvm.MethodName)) ∈ lw_tbl := lw_at lw_m0 145 rfl
theorem q164 : (Jvm.Cond.instanceMethod ({ cls := "CellUnionModel", name := "isSet", desc := "(I)Z" } : Jvm.MethodName)) ∈ lw_all := lw_g (lw_at lw_m0 146 rfl) rfl
theorem q165 : (Jvm.Cond.code ({ cls := "CellUnionModel", name := "isSet", desc := "(I)Z" } : Jvm.MethodName) prog_3_method_3_code (2 : Nat) (Option.some Jvm.ClassFile.FieldType.boolean)) ∈ lw_all := lw_g (lw_at lw_m0 147 rfl) rfl
theorem q166 : (Jvm.Cond.methodLink "CellUnionModel" (39 : Nat) ({ cls := "CellUnionModel", name := "inSquare", desc := "(IIII)Z" } : Jvm.MethodName)) ∈ lw_all := lw_g (lw_at lw_m0 148 rfl) rfl
theorem q167 : (Jvm.Cond.privateMethod ({ cls := "CellUnionModel", name := "inSquare", desc := "(IIII)Z" } : Jvm.MethodName)) ∈ lw_tbl := lw_at lw_m0 149 rfl
theorem q168 : (Jvm.Cond.instanceMethod ({ cls := "CellUnionModel", name := "inSquare", desc := "(IIII)Z" } : Jvm.MethodName)) ∈ lw_all := lw_g (lw_at lw_m0 150 rfl) rfl
theorem q169 : (Jvm.Cond.code ({ cls := "CellUnionModel", name := "inSquare", desc := "(IIII)Z" } : Jvm.MethodName) prog_3_method_4_code (6 : Nat) (Option.some Jvm.ClassFile.FieldType.boolean)) ∈ lw_all := lw_g (lw_at lw_m0 151 rfl) rfl
theorem q170 : (Jvm.Cond.methodLink "CellUnionModel" (43 : Nat) ({ cls := "CellUnionModel", name := "keep", desc := "(I)I" } : Jvm.MethodName)) ∈ lw_all := lw_g (lw_at lw_m0 152 rfl) rfl
theorem q171 : (Jvm.Cond.privateMethod ({ cls := "CellUnionModel", name := "keep", desc := "(I)I" } : Jvm.MethodName)) ∈ lw_tbl := lw_at lw_m0 153 rfl
theorem q172 : (Jvm.Cond.instanceMethod ({ cls := "CellUnionModel", name := "keep", desc := "(I)I" } : Jvm.MethodName)) ∈ lw_all := lw_g (lw_at lw_m0 154 rfl) rfl
theorem q173 : (Jvm.Cond.code ({ cls := "CellUnionModel", name := "keep", desc := "(I)I" } : Jvm.MethodName) prog_3_method_6_code (3 : Nat) (Option.some Jvm.ClassFile.FieldType.int)) ∈ lw_all := lw_g (lw_at lw_m0 155 rfl) rfl
theorem q174 : (Jvm.Cond.methodLink "CellUnionModel" (27 : Nat) ({ cls := "CellUnionModel", name := "runs", desc := "()I" } : Jvm.MethodName)) ∈ lw_all := lw_g (lw_at lw_m0 156 rfl) rfl
theorem q175 : (Jvm.Cond.privateMethod ({ cls := "CellUnionModel", name := "runs", desc := "()I" } : Jvm.MethodName)) ∈ lw_tbl := lw_at lw_m0 157 rfl
theorem q176 : (Jvm.Cond.instanceMethod ({ cls := "CellUnionModel", name := "runs", desc := "()I" } : Jvm.MethodName)) ∈ lw_all := lw_g (lw_at lw_m0 158 rfl) rfl
theorem q177 : (Jvm.Cond.code ({ cls := "CellUnionModel", name := "runs", desc := "()I" } : Jvm.MethodName) prog_3_method_5_code (3 : Nat) (Option.some Jvm.ClassFile.FieldType.int)) ∈ lw_all := lw_g (lw_at lw_m0 159 rfl) rfl
theorem q178 : (Jvm.Cond.methodLink "CellUnionModel" (31 : Nat) ({ cls := "CellUnionModel", name := "cells", desc := "(I)I" } : Jvm.MethodName)) ∈ lw_all := lw_g (lw_at lw_m0 160 rfl) rfl
theorem q179 : (Jvm.Cond.instanceMethod ({ cls := "CellUnionModel", name := "cells", desc := "(I)I" } : Jvm.MethodName)) ∈ lw_all := lw_g (lw_at lw_m0 161 rfl) rfl
theorem q180 : (Jvm.Cond.selects "CellUnionModel" ({ cls := "CellUnionModel", name := "cells", desc := "(I)I" } : Jvm.MethodName) ({ cls := "CellUnionModel", name := "cells", desc := "(I)I" } : Jvm.MethodName)) ∈ lw_all := lw_g (lw_at lw_m0 162 rfl) rfl
theorem q181 : (Jvm.Cond.code ({ cls := "CellUnionModel", name := "cells", desc := "(I)I" } : Jvm.MethodName) prog_3_method_11_code (4 : Nat) (Option.some Jvm.ClassFile.FieldType.int)) ∈ lw_all := lw_g (lw_at lw_m0 163 rfl) rfl
theorem q183 : (Jvm.Cond.instanceMethod ({ cls := "CellUnionModel", name := "combine", desc := "(IIII)I" } : Jvm.MethodName)) ∈ lw_all := lw_g (lw_at lw_m0 165 rfl) rfl
theorem q184 : (Jvm.Cond.selects "CellUnionModel" ({ cls := "CellUnionModel", name := "combine", desc := "(IIII)I" } : Jvm.MethodName) ({ cls := "CellUnionModel", name := "combine", desc := "(IIII)I" } : Jvm.MethodName)) ∈ lw_all := lw_g (lw_at lw_m0 166 rfl) rfl
theorem q185 : (Jvm.Cond.code ({ cls := "CellUnionModel", name := "combine", desc := "(IIII)I" } : Jvm.MethodName) prog_3_method_8_code (8 : Nat) (Option.some Jvm.ClassFile.FieldType.int)) ∈ lw_all := lw_g (lw_at lw_m0 167 rfl) rfl
theorem q187 : (Jvm.Cond.instanceMethod ({ cls := "CellUnionModel", name := "has", desc := "(III)Z" } : Jvm.MethodName)) ∈ lw_all := lw_g (lw_at lw_m0 169 rfl) rfl
theorem q188 : (Jvm.Cond.selects "CellUnionModel" ({ cls := "CellUnionModel", name := "has", desc := "(III)Z" } : Jvm.MethodName) ({ cls := "CellUnionModel", name := "has", desc := "(III)Z" } : Jvm.MethodName)) ∈ lw_all := lw_g (lw_at lw_m0 170 rfl) rfl
theorem q189 : (Jvm.Cond.code ({ cls := "CellUnionModel", name := "has", desc := "(III)Z" } : Jvm.MethodName) prog_3_method_10_code (4 : Nat) (Option.some Jvm.ClassFile.FieldType.boolean)) ∈ lw_all := lw_g (lw_at lw_m0 171 rfl) rfl
theorem q190 : (Jvm.Cond.methodLink "CellUnionModel" (46 : Nat) ({ cls := "CellUnionModel", name := "isCell", desc := "(II)Z" } : Jvm.MethodName)) ∈ lw_all := lw_g (lw_at lw_m0 172 rfl) rfl
theorem q191 : (Jvm.Cond.privateMethod ({ cls := "CellUnionModel", name := "isCell", desc := "(II)Z" } : Jvm.MethodName)) ∈ lw_tbl := lw_at lw_m0 173 rfl
theorem q192 : (Jvm.Cond.instanceMethod ({ cls := "CellUnionModel", name := "isCell", desc := "(II)Z" } : Jvm.MethodName)) ∈ lw_all := lw_g (lw_at lw_m0 174 rfl) rfl
theorem q193 : (Jvm.Cond.code ({ cls := "CellUnionModel", name := "isCell", desc := "(II)Z" } : Jvm.MethodName) prog_3_method_9_code (3 : Nat) (Option.some Jvm.ClassFile.FieldType.boolean)) ∈ lw_all := lw_g (lw_at lw_m0 175 rfl) rfl
theorem q196 : (Jvm.Cond.instanceMethod ({ cls := "CellUnionModel", name := "stretches", desc := "(I)I" } : Jvm.MethodName)) ∈ lw_all := lw_g (lw_at lw_m0 178 rfl) rfl
theorem q197 : (Jvm.Cond.selects "CellUnionModel" ({ cls := "CellUnionModel", name := "stretches", desc := "(I)I" } : Jvm.MethodName) ({ cls := "CellUnionModel", name := "stretches", desc := "(I)I" } : Jvm.MethodName)) ∈ lw_all := lw_g (lw_at lw_m0 179 rfl) rfl
theorem q198 : (Jvm.Cond.code ({ cls := "CellUnionModel", name := "stretches", desc := "(I)I" } : Jvm.MethodName) prog_3_method_12_code (3 : Nat) (Option.some Jvm.ClassFile.FieldType.int)) ∈ lw_all := lw_g (lw_at lw_m0 180 rfl) rfl
theorem q200 : (Jvm.Cond.instanceMethod ({ cls := "CellUnionModel", name := "pieces", desc := "(I)I" } : Jvm.MethodName)) ∈ lw_all := lw_g (lw_at lw_m0 182 rfl) rfl
theorem q201 : (Jvm.Cond.selects "CellUnionModel" ({ cls := "CellUnionModel", name := "pieces", desc := "(I)I" } : Jvm.MethodName) ({ cls := "CellUnionModel", name := "pieces", desc := "(I)I" } : Jvm.MethodName)) ∈ lw_all := lw_g (lw_at lw_m0 183 rfl) rfl
theorem q202 : (Jvm.Cond.code ({ cls := "CellUnionModel", name := "pieces", desc := "(I)I" } : Jvm.MethodName) prog_3_method_16_code (5 : Nat) (Option.some Jvm.ClassFile.FieldType.int)) ∈ lw_all := lw_g (lw_at lw_m0 184 rfl) rfl
theorem q203 : (Jvm.Cond.methodLink "CellUnionModel" (53 : Nat) ({ cls := "CellUnionModel", name := "levelAt", desc := "(II)I" } : Jvm.MethodName)) ∈ lw_all := lw_g (lw_at lw_m0 185 rfl) rfl
theorem q204 : (Jvm.Cond.privateMethod ({ cls := "CellUnionModel", name := "levelAt", desc := "(II)I" } : Jvm.MethodName)) ∈ lw_tbl := lw_at lw_m0 186 rfl
theorem q205 : (Jvm.Cond.instanceMethod ({ cls := "CellUnionModel", name := "levelAt", desc := "(II)I" } : Jvm.MethodName)) ∈ lw_all := lw_g (lw_at lw_m0 187 rfl) rfl
theorem q206 : (Jvm.Cond.code ({ cls := "CellUnionModel", name := "levelAt", desc := "(II)I" } : Jvm.MethodName) prog_3_method_14_code (5 : Nat) (Option.some Jvm.ClassFile.FieldType.int)) ∈ lw_all := lw_g (lw_at lw_m0 188 rfl) rfl
theorem q207 : (Jvm.Cond.methodLink "CellUnionModel" (50 : Nat) ({ cls := "CellUnionModel", name := "whole", desc := "(IIII)Z" } : Jvm.MethodName)) ∈ lw_all := lw_g (lw_at lw_m0 189 rfl) rfl
theorem q208 : (Jvm.Cond.privateMethod ({ cls := "CellUnionModel", name := "whole", desc := "(IIII)Z" } : Jvm.MethodName)) ∈ lw_tbl := lw_at lw_m0 190 rfl
theorem q209 : (Jvm.Cond.instanceMethod ({ cls := "CellUnionModel", name := "whole", desc := "(IIII)Z" } : Jvm.MethodName)) ∈ lw_all := lw_g (lw_at lw_m0 191 rfl) rfl
theorem q210 : (Jvm.Cond.code ({ cls := "CellUnionModel", name := "whole", desc := "(IIII)Z" } : Jvm.MethodName) prog_3_method_13_code (6 : Nat) (Option.some Jvm.ClassFile.FieldType.boolean)) ∈ lw_all := lw_g (lw_at lw_m0 192 rfl) rfl
theorem q211 : (Jvm.Cond.methodLink "CellUnionModel" (56 : Nat) ({ cls := "CellUnionModel", name := "firstNumber", desc := "(II)I" } : Jvm.MethodName)) ∈ lw_all := lw_g (lw_at lw_m0 193 rfl) rfl
theorem q212 : (Jvm.Cond.privateMethod ({ cls := "CellUnionModel", name := "firstNumber", desc := "(II)I" } : Jvm.MethodName)) ∈ lw_tbl := lw_at lw_m0 194 rfl
theorem q213 : (Jvm.Cond.instanceMethod ({ cls := "CellUnionModel", name := "firstNumber", desc := "(II)I" } : Jvm.MethodName)) ∈ lw_all := lw_g (lw_at lw_m0 195 rfl) rfl
theorem q214 : (Jvm.Cond.code ({ cls := "CellUnionModel", name := "firstNumber", desc := "(II)I" } : Jvm.MethodName) prog_3_method_15_code (6 : Nat) (Option.some Jvm.ClassFile.FieldType.int)) ∈ lw_all := lw_g (lw_at lw_m0 196 rfl) rfl
theorem q216 : (Jvm.Cond.instanceMethod ({ cls := "CellUnionModel", name := "piece", desc := "(II)I" } : Jvm.MethodName)) ∈ lw_all := lw_g (lw_at lw_m0 198 rfl) rfl
theorem q217 : (Jvm.Cond.selects "CellUnionModel" ({ cls := "CellUnionModel", name := "piece", desc := "(II)I" } : Jvm.MethodName) ({ cls := "CellUnionModel", name := "piece", desc := "(II)I" } : Jvm.MethodName)) ∈ lw_all := lw_g (lw_at lw_m0 199 rfl) rfl
theorem q218 : (Jvm.Cond.code ({ cls := "CellUnionModel", name := "piece", desc := "(II)I" } : Jvm.MethodName) prog_3_method_17_code (6 : Nat) (Option.some Jvm.ClassFile.FieldType.int)) ∈ lw_all := lw_g (lw_at lw_m0 200 rfl) rfl
theorem q220 : (Jvm.Cond.instanceMethod ({ cls := "CellUnionModel", name := "number", desc := "(II)I" } : Jvm.MethodName)) ∈ lw_all := lw_g (lw_at lw_m0 202 rfl) rfl
theorem q221 : (Jvm.Cond.selects "CellUnionModel" ({ cls := "CellUnionModel", name := "number", desc := "(II)I" } : Jvm.MethodName) ({ cls := "CellUnionModel", name := "number", desc := "(II)I" } : Jvm.MethodName)) ∈ lw_all := lw_g (lw_at lw_m0 203 rfl) rfl
theorem q222 : (Jvm.Cond.code ({ cls := "CellUnionModel", name := "number", desc := "(II)I" } : Jvm.MethodName) prog_3_method_18_code (3 : Nat) (Option.some Jvm.ClassFile.FieldType.int)) ∈ lw_all := lw_g (lw_at lw_m0 204 rfl) rfl
theorem q224 : (Jvm.Cond.instanceMethod ({ cls := "CellUnionModel", name := "place", desc := "(I)I" } : Jvm.MethodName)) ∈ lw_all := lw_g (lw_at lw_m0 206 rfl) rfl
theorem q225 : (Jvm.Cond.selects "CellUnionModel" ({ cls := "CellUnionModel", name := "place", desc := "(I)I" } : Jvm.MethodName) ({ cls := "CellUnionModel", name := "place", desc := "(I)I" } : Jvm.MethodName)) ∈ lw_all := lw_g (lw_at lw_m0 207 rfl) rfl
theorem q226 : (Jvm.Cond.code ({ cls := "CellUnionModel", name := "place", desc := "(I)I" } : Jvm.MethodName) prog_3_method_19_code (2 : Nat) (Option.some Jvm.ClassFile.FieldType.int)) ∈ lw_all := lw_g (lw_at lw_m0 208 rfl) rfl
theorem q228 : (Jvm.Cond.instanceMethod ({ cls := "CellUnionModel", name := "nth", desc := "(II)I" } : Jvm.MethodName)) ∈ lw_all := lw_g (lw_at lw_m0 210 rfl) rfl
theorem q229 : (Jvm.Cond.selects "CellUnionModel" ({ cls := "CellUnionModel", name := "nth", desc := "(II)I" } : Jvm.MethodName) ({ cls := "CellUnionModel", name := "nth", desc := "(II)I" } : Jvm.MethodName)) ∈ lw_all := lw_g (lw_at lw_m0 211 rfl) rfl
theorem q230 : (Jvm.Cond.code ({ cls := "CellUnionModel", name := "nth", desc := "(II)I" } : Jvm.MethodName) prog_3_method_20_code (5 : Nat) (Option.some Jvm.ClassFile.FieldType.int)) ∈ lw_all := lw_g (lw_at lw_m0 212 rfl) rfl
theorem q232 : (Jvm.Cond.instanceMethod ({ cls := "CellUnionModel", name := "touched", desc := "(II)I" } : Jvm.MethodName)) ∈ lw_all := lw_g (lw_at lw_m0 214 rfl) rfl
theorem q233 : (Jvm.Cond.selects "CellUnionModel" ({ cls := "CellUnionModel", name := "touched", desc := "(II)I" } : Jvm.MethodName) ({ cls := "CellUnionModel", name := "touched", desc := "(II)I" } : Jvm.MethodName)) ∈ lw_all := lw_g (lw_at lw_m0 215 rfl) rfl
theorem q234 : (Jvm.Cond.code ({ cls := "CellUnionModel", name := "touched", desc := "(II)I" } : Jvm.MethodName) prog_3_method_22_code (7 : Nat) (Option.some Jvm.ClassFile.FieldType.int)) ∈ lw_all := lw_g (lw_at lw_m0 216 rfl) rfl
theorem q235 : (Jvm.Cond.methodLink "CellUnionModel" (59 : Nat) ({ cls := "CellUnionModel", name := "some", desc := "(IIII)Z" } : Jvm.MethodName)) ∈ lw_all := lw_g (lw_at lw_m0 217 rfl) rfl
theorem q236 : (Jvm.Cond.privateMethod ({ cls := "CellUnionModel", name := "some", desc := "(IIII)Z" } : Jvm.MethodName)) ∈ lw_tbl := lw_at lw_m0 218 rfl
theorem q237 : (Jvm.Cond.instanceMethod ({ cls := "CellUnionModel", name := "some", desc := "(IIII)Z" } : Jvm.MethodName)) ∈ lw_all := lw_g (lw_at lw_m0 219 rfl) rfl
theorem q238 : (Jvm.Cond.code ({ cls := "CellUnionModel", name := "some", desc := "(IIII)Z" } : Jvm.MethodName) prog_3_method_21_code (6 : Nat) (Option.some Jvm.ClassFile.FieldType.boolean)) ∈ lw_all := lw_g (lw_at lw_m0 220 rfl) rfl
theorem in_X1 : ∀ w ∈ wsX10, w ∈ lw_all := lw_in wsX10 [147, 149, 151, 153] (by decide +kernel) (by decide +kernel)
end
section
/-! java/lang/Object -/
set_option maxRecDepth 100000
def RJ0 : String := "java/lang/Object"
abbrev cJ0_init : ByteArray := object_method_1_code
def yJ0_init : MethodName := ⟨RJ0, "<init>", "()V"⟩
theorem dJ0_init_0 : decode cJ0_init 0 = .ok (.return_, 1) := by decide +kernel
theorem q27 : (Jvm.Cond.instanceMethod ({ cls := "java/lang/Object", name := "<init>", desc := "()V" } : Jvm.MethodName)) ∈ lw_all := lw_g (lw_at lw_m0 9 rfl) rfl
theorem q28 : (Jvm.Cond.code ({ cls := "java/lang/Object", name := "<init>", desc := "()V" } : Jvm.MethodName) object_method_1_code (1 : Nat) (Option.none : Option Jvm.ClassFile.FieldType)) ∈ lw_all := lw_g (lw_at lw_m0 10 rfl) rfl
theorem q18 : (Jvm.Cond.initialized "CellUnionLaw") ∈ lw_all := lw_g (lw_at lw_m0 0 rfl) rfl
set_option maxRecDepth 100000
theorem q21 : (Jvm.Cond.classLink "CellUnionLaw" (7 : Nat) "CellUnion") ∈ lw_all := lw_g (lw_at lw_m0 3 rfl) rfl
theorem q23 : (Jvm.Cond.methodLink "CellUnionLaw" (9 : Nat) ({ cls := "CellUnion", name := "<init>", desc := "()V" } : Jvm.MethodName)) ∈ lw_all := lw_g (lw_at lw_m0 5 rfl) rfl
theorem q56 : (Jvm.Cond.methodLink "CellUnionLaw" (13 : Nat) ({ cls := "CellUnion", name := "change", desc := "(IIZ)I" } : Jvm.MethodName)) ∈ lw_all := lw_g (lw_at lw_m0 38 rfl) rfl
theorem q80 : (Jvm.Cond.methodLink "CellUnionLaw" (18 : Nat) ({ cls := "CellUnion", name := "combine", desc := "(IIII)I" } : Jvm.MethodName)) ∈ lw_all := lw_g (lw_at lw_m0 62 rfl) rfl
theorem q84 : (Jvm.Cond.methodLink "CellUnionLaw" (23 : Nat) ({ cls := "CellUnion", name := "has", desc := "(III)Z" } : Jvm.MethodName)) ∈ lw_all := lw_g (lw_at lw_m0 66 rfl) rfl
theorem q92 : (Jvm.Cond.methodLink "CellUnionLaw" (28 : Nat) ({ cls := "CellUnion", name := "cells", desc := "(I)I" } : Jvm.MethodName)) ∈ lw_all := lw_g (lw_at lw_m0 74 rfl) rfl
theorem q93 : (Jvm.Cond.methodLink "CellUnionLaw" (33 : Nat) ({ cls := "CellUnion", name := "stretches", desc := "(I)I" } : Jvm.MethodName)) ∈ lw_all := lw_g (lw_at lw_m0 75 rfl) rfl
theorem q97 : (Jvm.Cond.methodLink "CellUnionLaw" (37 : Nat) ({ cls := "CellUnion", name := "pieces", desc := "(I)I" } : Jvm.MethodName)) ∈ lw_all := lw_g (lw_at lw_m0 79 rfl) rfl
theorem q105 : (Jvm.Cond.methodLink "CellUnionLaw" (41 : Nat) ({ cls := "CellUnion", name := "piece", desc := "(II)I" } : Jvm.MethodName)) ∈ lw_all := lw_g (lw_at lw_m0 87 rfl) rfl
theorem q113 : (Jvm.Cond.methodLink "CellUnionLaw" (46 : Nat) ({ cls := "CellUnion", name := "number", desc := "(II)I" } : Jvm.MethodName)) ∈ lw_all := lw_g (lw_at lw_m0 95 rfl) rfl
theorem q117 : (Jvm.Cond.methodLink "CellUnionLaw" (50 : Nat) ({ cls := "CellUnion", name := "place", desc := "(I)I" } : Jvm.MethodName)) ∈ lw_all := lw_g (lw_at lw_m0 99 rfl) rfl
theorem q125 : (Jvm.Cond.methodLink "CellUnionLaw" (54 : Nat) ({ cls := "CellUnion", name := "nth", desc := "(II)I" } : Jvm.MethodName)) ∈ lw_all := lw_g (lw_at lw_m0 107 rfl) rfl
theorem q129 : (Jvm.Cond.methodLink "CellUnionLaw" (58 : Nat) ({ cls := "CellUnion", name := "touched", desc := "(II)I" } : Jvm.MethodName)) ∈ lw_all := lw_g (lw_at lw_m0 111 rfl) rfl
theorem q133 : (Jvm.Cond.classLink "CellUnionLaw" (10 : Nat) "CellUnionModel") ∈ lw_all := lw_g (lw_at lw_m0 115 rfl) rfl
theorem q135 : (Jvm.Cond.methodLink "CellUnionLaw" (12 : Nat) ({ cls := "CellUnionModel", name := "<init>", desc := "()V" } : Jvm.MethodName)) ∈ lw_all := lw_g (lw_at lw_m0 117 rfl) rfl
theorem q158 : (Jvm.Cond.methodLink "CellUnionLaw" (17 : Nat) ({ cls := "CellUnionModel", name := "change", desc := "(IIZ)I" } : Jvm.MethodName)) ∈ lw_all := lw_g (lw_at lw_m0 140 rfl) rfl
theorem q182 : (Jvm.Cond.methodLink "CellUnionLaw" (22 : Nat) ({ cls := "CellUnionModel", name := "combine", desc := "(IIII)I" } : Jvm.MethodName)) ∈ lw_all := lw_g (lw_at lw_m0 164 rfl) rfl
theorem q186 : (Jvm.Cond.methodLink "CellUnionLaw" (27 : Nat) ({ cls := "CellUnionModel", name := "has", desc := "(III)Z" } : Jvm.MethodName)) ∈ lw_all := lw_g (lw_at lw_m0 168 rfl) rfl
theorem q194 : (Jvm.Cond.methodLink "CellUnionLaw" (32 : Nat) ({ cls := "CellUnionModel", name := "cells", desc := "(I)I" } : Jvm.MethodName)) ∈ lw_all := lw_g (lw_at lw_m0 176 rfl) rfl
theorem q195 : (Jvm.Cond.methodLink "CellUnionLaw" (36 : Nat) ({ cls := "CellUnionModel", name := "stretches", desc := "(I)I" } : Jvm.MethodName)) ∈ lw_all := lw_g (lw_at lw_m0 177 rfl) rfl
theorem q199 : (Jvm.Cond.methodLink "CellUnionLaw" (40 : Nat) ({ cls := "CellUnionModel", name := "pieces", desc := "(I)I" } : Jvm.MethodName)) ∈ lw_all := lw_g (lw_at lw_m0 181 rfl) rfl
theorem q215 : (Jvm.Cond.methodLink "CellUnionLaw" (45 : Nat) ({ cls := "CellUnionModel", name := "piece", desc := "(II)I" } : Jvm.MethodName)) ∈ lw_all := lw_g (lw_at lw_m0 197 rfl) rfl
theorem q219 : (Jvm.Cond.methodLink "CellUnionLaw" (49 : Nat) ({ cls := "CellUnionModel", name := "number", desc := "(II)I" } : Jvm.MethodName)) ∈ lw_all := lw_g (lw_at lw_m0 201 rfl) rfl
theorem q223 : (Jvm.Cond.methodLink "CellUnionLaw" (53 : Nat) ({ cls := "CellUnionModel", name := "place", desc := "(I)I" } : Jvm.MethodName)) ∈ lw_all := lw_g (lw_at lw_m0 205 rfl) rfl
theorem q227 : (Jvm.Cond.methodLink "CellUnionLaw" (57 : Nat) ({ cls := "CellUnionModel", name := "nth", desc := "(II)I" } : Jvm.MethodName)) ∈ lw_all := lw_g (lw_at lw_m0 209 rfl) rfl
theorem q231 : (Jvm.Cond.methodLink "CellUnionLaw" (61 : Nat) ({ cls := "CellUnionModel", name := "touched", desc := "(II)I" } : Jvm.MethodName)) ∈ lw_all := lw_g (lw_at lw_m0 213 rfl) rfl
theorem q54 : (Jvm.Cond.arrayClass Jvm.ClassFile.FieldType.byte) ∈ lw_all := lw_g (lw_at lw_m0 36 rfl) rfl
set_option maxRecDepth 100000
theorem q55 : (Jvm.Cond.arrayClass Jvm.ClassFile.FieldType.short) ∈ lw_all := lw_g (lw_at lw_m0 37 rfl) rfl
theorem q156 : (Jvm.Cond.arrayClass Jvm.ClassFile.FieldType.int) ∈ lw_all := lw_g (lw_at lw_m0 138 rfl) rfl
theorem q157 : (Jvm.Cond.arrayClass Jvm.ClassFile.FieldType.boolean) ∈ lw_all := lw_g (lw_at lw_m0 139 rfl) rfl
/-! the law's own entry -/
set_option maxRecDepth 100000
abbrev cL_law : ByteArray := code
theorem dL_law_0 : decode cL_law 0 = .ok (.new 7, 3) := by decide +kernel
theorem dL_law_3 : decode cL_law 3 = .ok (.dup, 1) := by decide +kernel
theorem dL_law_4 : decode cL_law 4 = .ok (.invokespecial 9, 3) := by decide +kernel
theorem dL_law_7 : decode cL_law 7 = .ok (.astore_n 1, 1) := by decide +kernel
theorem dL_law_8 : decode cL_law 8 = .ok (.new 10, 3) := by decide +kernel
theorem dL_law_11 : decode cL_law 11 = .ok (.dup, 1) := by decide +kernel
theorem dL_law_12 : decode cL_law 12 = .ok (.invokespecial 12, 3) := by decide +kernel
theorem dL_law_15 : decode cL_law 15 = .ok (.astore_n 2, 1) := by decide +kernel
theorem dL_law_16 : decode cL_law 16 = .ok (.iconst 0, 1) := by decide +kernel
theorem dL_law_17 : decode cL_law 17 = .ok (.istore_n 3, 1) := by decide +kernel
theorem dL_law_18 : decode cL_law 18 = .ok (.iload_n 3, 1) := by decide +kernel
theorem dL_law_19 : decode cL_law 19 = .ok (.aload_n 0, 1) := by decide +kernel
theorem dL_law_20 : decode cL_law 20 = .ok (.arraylength, 1) := by decide +kernel
theorem dL_law_21 : decode cL_law 21 = .ok (.iconst 5, 1) := by decide +kernel
theorem dL_law_22 : decode cL_law 22 = .ok (.isub, 1) := by decide +kernel
theorem dL_law_23 : decode cL_law 23 = .ok (.if_icmp .gt 454, 3) := by decide +kernel
theorem dL_law_26 : decode cL_law 26 = .ok (.aload_n 0, 1) := by decide +kernel
theorem dL_law_27 : decode cL_law 27 = .ok (.iload_n 3, 1) := by decide +kernel
theorem dL_law_28 : decode cL_law 28 = .ok (.iaload, 1) := by decide +kernel
theorem dL_law_29 : decode cL_law 29 = .ok (.bipush 15, 2) := by decide +kernel
theorem dL_law_31 : decode cL_law 31 = .ok (.iand, 1) := by decide +kernel
theorem dL_law_32 : decode cL_law 32 = .ok (.tableswitch 439 0 10 #[60, 119, 172, 215, 238, 261, 284, 317, 350, 373, 406], 60) := by decide +kernel
theorem dL_law_92 : decode cL_law 92 = .ok (.aload_n 1, 1) := by decide +kernel
theorem dL_law_93 : decode cL_law 93 = .ok (.aload_n 0, 1) := by decide +kernel
theorem dL_law_94 : decode cL_law 94 = .ok (.iload_n 3, 1) := by decide +kernel
theorem dL_law_95 : decode cL_law 95 = .ok (.iconst 1, 1) := by decide +kernel
theorem dL_law_96 : decode cL_law 96 = .ok (.iadd, 1) := by decide +kernel
theorem dL_law_97 : decode cL_law 97 = .ok (.iaload, 1) := by decide +kernel
theorem dL_law_98 : decode cL_law 98 = .ok (.aload_n 0, 1) := by decide +kernel
theorem dL_law_99 : decode cL_law 99 = .ok (.iload_n 3, 1) := by decide +kernel
theorem dL_law_100 : decode cL_law 100 = .ok (.iconst 2, 1) := by decide +kernel
theorem dL_law_101 : decode cL_law 101 = .ok (.iadd, 1) := by decide +kernel
theorem dL_law_102 : decode cL_law 102 = .ok (.iaload, 1) := by decide +kernel
theorem dL_law_103 : decode cL_law 103 = .ok (.aload_n 0, 1) := by decide +kernel
theorem dL_law_104 : decode cL_law 104 = .ok (.iload_n 3, 1) := by decide +kernel
theorem dL_law_105 : decode cL_law 105 = .ok (.iconst 3, 1) := by decide +kernel
theorem dL_law_106 : decode cL_law 106 = .ok (.iadd, 1) := by decide +kernel
theorem dL_law_107 : decode cL_law 107 = .ok (.iaload, 1) := by decide +kernel
theorem dL_law_108 : decode cL_law 108 = .ok (.ifCond .eq 7, 3) := by decide +kernel
theorem dL_law_111 : decode cL_law 111 = .ok (.iconst 1, 1) := by decide +kernel
theorem dL_law_112 : decode cL_law 112 = .ok (.goto 4, 3) := by decide +kernel
theorem dL_law_115 : decode cL_law 115 = .ok (.iconst 0, 1) := by decide +kernel
theorem dL_law_116 : decode cL_law 116 = .ok (.invokevirtual 13, 3) := by decide +kernel
theorem dL_law_119 : decode cL_law 119 = .ok (.aload_n 2, 1) := by decide +kernel
theorem dL_law_120 : decode cL_law 120 = .ok (.aload_n 0, 1) := by decide +kernel
theorem dL_law_121 : decode cL_law 121 = .ok (.iload_n 3, 1) := by decide +kernel
theorem dL_law_122 : decode cL_law 122 = .ok (.iconst 1, 1) := by decide +kernel
theorem dL_law_123 : decode cL_law 123 = .ok (.iadd, 1) := by decide +kernel
theorem dL_law_124 : decode cL_law 124 = .ok (.iaload, 1) := by decide +kernel
theorem dL_law_125 : decode cL_law 125 = .ok (.aload_n 0, 1) := by decide +kernel
theorem dL_law_126 : decode cL_law 126 = .ok (.iload_n 3, 1) := by decide +kernel
theorem dL_law_127 : decode cL_law 127 = .ok (.iconst 2, 1) := by decide +kernel
theorem dL_law_128 : decode cL_law 128 = .ok (.iadd, 1) := by decide +kernel
theorem dL_law_129 : decode cL_law 129 = .ok (.iaload, 1) := by decide +kernel
theorem dL_law_130 : decode cL_law 130 = .ok (.aload_n 0, 1) := by decide +kernel
theorem dL_law_131 : decode cL_law 131 = .ok (.iload_n 3, 1) := by decide +kernel
theorem dL_law_132 : decode cL_law 132 = .ok (.iconst 3, 1) := by decide +kernel
theorem dL_law_133 : decode cL_law 133 = .ok (.iadd, 1) := by decide +kernel
theorem dL_law_134 : decode cL_law 134 = .ok (.iaload, 1) := by decide +kernel
theorem dL_law_135 : decode cL_law 135 = .ok (.ifCond .eq 7, 3) := by decide +kernel
theorem dL_law_138 : decode cL_law 138 = .ok (.iconst 1, 1) := by decide +kernel
theorem dL_law_139 : decode cL_law 139 = .ok (.goto 4, 3) := by decide +kernel
theorem dL_law_142 : decode cL_law 142 = .ok (.iconst 0, 1) := by decide +kernel
theorem dL_law_143 : decode cL_law 143 = .ok (.invokevirtual 17, 3) := by decide +kernel
theorem dL_law_146 : decode cL_law 146 = .ok (.if_icmp .eq 325, 3) := by decide +kernel
theorem dL_law_149 : decode cL_law 149 = .ok (.iconst 0, 1) := by decide +kernel
theorem dL_law_150 : decode cL_law 150 = .ok (.ireturn, 1) := by decide +kernel
theorem dL_law_151 : decode cL_law 151 = .ok (.aload_n 1, 1) := by decide +kernel
theorem dL_law_152 : decode cL_law 152 = .ok (.aload_n 0, 1) := by decide +kernel
theorem dL_law_153 : decode cL_law 153 = .ok (.iload_n 3, 1) := by decide +kernel
theorem dL_law_154 : decode cL_law 154 = .ok (.iconst 1, 1) := by decide +kernel
theorem dL_law_155 : decode cL_law 155 = .ok (.iadd, 1) := by decide +kernel
theorem dL_law_156 : decode cL_law 156 = .ok (.iaload, 1) := by decide +kernel
theorem dL_law_157 : decode cL_law 157 = .ok (.aload_n 0, 1) := by decide +kernel
theorem dL_law_158 : decode cL_law 158 = .ok (.iload_n 3, 1) := by decide +kernel
theorem dL_law_159 : decode cL_law 159 = .ok (.iconst 2, 1) := by decide +kernel
theorem dL_law_160 : decode cL_law 160 = .ok (.iadd, 1) := by decide +kernel
theorem dL_law_161 : decode cL_law 161 = .ok (.iaload, 1) := by decide +kernel
theorem dL_law_162 : decode cL_law 162 = .ok (.aload_n 0, 1) := by decide +kernel
theorem dL_law_163 : decode cL_law 163 = .ok (.iload_n 3, 1) := by decide +kernel
theorem dL_law_164 : decode cL_law 164 = .ok (.iconst 3, 1) := by decide +kernel
theorem dL_law_165 : decode cL_law 165 = .ok (.iadd, 1) := by decide +kernel
theorem dL_law_166 : decode cL_law 166 = .ok (.iaload, 1) := by decide +kernel
theorem dL_law_167 : decode cL_law 167 = .ok (.aload_n 0, 1) := by decide +kernel
theorem dL_law_168 : decode cL_law 168 = .ok (.iload_n 3, 1) := by decide +kernel
theorem dL_law_169 : decode cL_law 169 = .ok (.iconst 4, 1) := by decide +kernel
theorem dL_law_170 : decode cL_law 170 = .ok (.iadd, 1) := by decide +kernel
theorem dL_law_171 : decode cL_law 171 = .ok (.iaload, 1) := by decide +kernel
theorem dL_law_172 : decode cL_law 172 = .ok (.invokevirtual 18, 3) := by decide +kernel
theorem dL_law_175 : decode cL_law 175 = .ok (.aload_n 2, 1) := by decide +kernel
theorem dL_law_176 : decode cL_law 176 = .ok (.aload_n 0, 1) := by decide +kernel
theorem dL_law_177 : decode cL_law 177 = .ok (.iload_n 3, 1) := by decide +kernel
theorem dL_law_178 : decode cL_law 178 = .ok (.iconst 1, 1) := by decide +kernel
theorem dL_law_179 : decode cL_law 179 = .ok (.iadd, 1) := by decide +kernel
theorem dL_law_180 : decode cL_law 180 = .ok (.iaload, 1) := by decide +kernel
theorem dL_law_181 : decode cL_law 181 = .ok (.aload_n 0, 1) := by decide +kernel
theorem dL_law_182 : decode cL_law 182 = .ok (.iload_n 3, 1) := by decide +kernel
theorem dL_law_183 : decode cL_law 183 = .ok (.iconst 2, 1) := by decide +kernel
theorem dL_law_184 : decode cL_law 184 = .ok (.iadd, 1) := by decide +kernel
theorem dL_law_185 : decode cL_law 185 = .ok (.iaload, 1) := by decide +kernel
theorem dL_law_186 : decode cL_law 186 = .ok (.aload_n 0, 1) := by decide +kernel
theorem dL_law_187 : decode cL_law 187 = .ok (.iload_n 3, 1) := by decide +kernel
theorem dL_law_188 : decode cL_law 188 = .ok (.iconst 3, 1) := by decide +kernel
theorem dL_law_189 : decode cL_law 189 = .ok (.iadd, 1) := by decide +kernel
theorem dL_law_190 : decode cL_law 190 = .ok (.iaload, 1) := by decide +kernel
theorem dL_law_191 : decode cL_law 191 = .ok (.aload_n 0, 1) := by decide +kernel
theorem dL_law_192 : decode cL_law 192 = .ok (.iload_n 3, 1) := by decide +kernel
theorem dL_law_193 : decode cL_law 193 = .ok (.iconst 4, 1) := by decide +kernel
theorem dL_law_194 : decode cL_law 194 = .ok (.iadd, 1) := by decide +kernel
theorem dL_law_195 : decode cL_law 195 = .ok (.iaload, 1) := by decide +kernel
theorem dL_law_196 : decode cL_law 196 = .ok (.invokevirtual 22, 3) := by decide +kernel
theorem dL_law_199 : decode cL_law 199 = .ok (.if_icmp .eq 272, 3) := by decide +kernel
theorem dL_law_202 : decode cL_law 202 = .ok (.iconst 0, 1) := by decide +kernel
theorem dL_law_203 : decode cL_law 203 = .ok (.ireturn, 1) := by decide +kernel
theorem dL_law_204 : decode cL_law 204 = .ok (.aload_n 1, 1) := by decide +kernel
theorem dL_law_205 : decode cL_law 205 = .ok (.aload_n 0, 1) := by decide +kernel
theorem dL_law_206 : decode cL_law 206 = .ok (.iload_n 3, 1) := by decide +kernel
theorem dL_law_207 : decode cL_law 207 = .ok (.iconst 1, 1) := by decide +kernel
theorem dL_law_208 : decode cL_law 208 = .ok (.iadd, 1) := by decide +kernel
theorem dL_law_209 : decode cL_law 209 = .ok (.iaload, 1) := by decide +kernel
theorem dL_law_210 : decode cL_law 210 = .ok (.aload_n 0, 1) := by decide +kernel
theorem dL_law_211 : decode cL_law 211 = .ok (.iload_n 3, 1) := by decide +kernel
theorem dL_law_212 : decode cL_law 212 = .ok (.iconst 2, 1) := by decide +kernel
theorem dL_law_213 : decode cL_law 213 = .ok (.iadd, 1) := by decide +kernel
theorem dL_law_214 : decode cL_law 214 = .ok (.iaload, 1) := by decide +kernel
theorem dL_law_215 : decode cL_law 215 = .ok (.aload_n 0, 1) := by decide +kernel
theorem dL_law_216 : decode cL_law 216 = .ok (.iload_n 3, 1) := by decide +kernel
theorem dL_law_217 : decode cL_law 217 = .ok (.iconst 3, 1) := by decide +kernel
theorem dL_law_218 : decode cL_law 218 = .ok (.iadd, 1) := by decide +kernel
theorem dL_law_219 : decode cL_law 219 = .ok (.iaload, 1) := by decide +kernel
theorem dL_law_220 : decode cL_law 220 = .ok (.invokevirtual 23, 3) := by decide +kernel
theorem dL_law_223 : decode cL_law 223 = .ok (.aload_n 2, 1) := by decide +kernel
theorem dL_law_224 : decode cL_law 224 = .ok (.aload_n 0, 1) := by decide +kernel
theorem dL_law_225 : decode cL_law 225 = .ok (.iload_n 3, 1) := by decide +kernel
theorem dL_law_226 : decode cL_law 226 = .ok (.iconst 1, 1) := by decide +kernel
theorem dL_law_227 : decode cL_law 227 = .ok (.iadd, 1) := by decide +kernel
theorem dL_law_228 : decode cL_law 228 = .ok (.iaload, 1) := by decide +kernel
theorem dL_law_229 : decode cL_law 229 = .ok (.aload_n 0, 1) := by decide +kernel
theorem dL_law_230 : decode cL_law 230 = .ok (.iload_n 3, 1) := by decide +kernel
theorem dL_law_231 : decode cL_law 231 = .ok (.iconst 2, 1) := by decide +kernel
theorem dL_law_232 : decode cL_law 232 = .ok (.iadd, 1) := by decide +kernel
theorem dL_law_233 : decode cL_law 233 = .ok (.iaload, 1) := by decide +kernel
theorem dL_law_234 : decode cL_law 234 = .ok (.aload_n 0, 1) := by decide +kernel
theorem dL_law_235 : decode cL_law 235 = .ok (.iload_n 3, 1) := by decide +kernel
theorem dL_law_236 : decode cL_law 236 = .ok (.iconst 3, 1) := by decide +kernel
theorem dL_law_237 : decode cL_law 237 = .ok (.iadd, 1) := by decide +kernel
theorem dL_law_238 : decode cL_law 238 = .ok (.iaload, 1) := by decide +kernel
theorem dL_law_239 : decode cL_law 239 = .ok (.invokevirtual 27, 3) := by decide +kernel
theorem dL_law_242 : decode cL_law 242 = .ok (.if_icmp .eq 229, 3) := by decide +kernel
theorem dL_law_245 : decode cL_law 245 = .ok (.iconst 0, 1) := by decide +kernel
theorem dL_law_246 : decode cL_law 246 = .ok (.ireturn, 1) := by decide +kernel
theorem dL_law_247 : decode cL_law 247 = .ok (.aload_n 1, 1) := by decide +kernel
theorem dL_law_248 : decode cL_law 248 = .ok (.aload_n 0, 1) := by decide +kernel
theorem dL_law_249 : decode cL_law 249 = .ok (.iload_n 3, 1) := by decide +kernel
theorem dL_law_250 : decode cL_law 250 = .ok (.iconst 1, 1) := by decide +kernel
theorem dL_law_251 : decode cL_law 251 = .ok (.iadd, 1) := by decide +kernel
theorem dL_law_252 : decode cL_law 252 = .ok (.iaload, 1) := by decide +kernel
theorem dL_law_253 : decode cL_law 253 = .ok (.invokevirtual 28, 3) := by decide +kernel
theorem dL_law_256 : decode cL_law 256 = .ok (.aload_n 2, 1) := by decide +kernel
theorem dL_law_257 : decode cL_law 257 = .ok (.aload_n 0, 1) := by decide +kernel
theorem dL_law_258 : decode cL_law 258 = .ok (.iload_n 3, 1) := by decide +kernel
theorem dL_law_259 : decode cL_law 259 = .ok (.iconst 1, 1) := by decide +kernel
theorem dL_law_260 : decode cL_law 260 = .ok (.iadd, 1) := by decide +kernel
theorem dL_law_261 : decode cL_law 261 = .ok (.iaload, 1) := by decide +kernel
theorem dL_law_262 : decode cL_law 262 = .ok (.invokevirtual 32, 3) := by decide +kernel
theorem dL_law_265 : decode cL_law 265 = .ok (.if_icmp .eq 206, 3) := by decide +kernel
theorem dL_law_268 : decode cL_law 268 = .ok (.iconst 0, 1) := by decide +kernel
theorem dL_law_269 : decode cL_law 269 = .ok (.ireturn, 1) := by decide +kernel
theorem dL_law_270 : decode cL_law 270 = .ok (.aload_n 1, 1) := by decide +kernel
theorem dL_law_271 : decode cL_law 271 = .ok (.aload_n 0, 1) := by decide +kernel
theorem dL_law_272 : decode cL_law 272 = .ok (.iload_n 3, 1) := by decide +kernel
theorem dL_law_273 : decode cL_law 273 = .ok (.iconst 1, 1) := by decide +kernel
theorem dL_law_274 : decode cL_law 274 = .ok (.iadd, 1) := by decide +kernel
theorem dL_law_275 : decode cL_law 275 = .ok (.iaload, 1) := by decide +kernel
theorem dL_law_276 : decode cL_law 276 = .ok (.invokevirtual 33, 3) := by decide +kernel
theorem dL_law_279 : decode cL_law 279 = .ok (.aload_n 2, 1) := by decide +kernel
theorem dL_law_280 : decode cL_law 280 = .ok (.aload_n 0, 1) := by decide +kernel
theorem dL_law_281 : decode cL_law 281 = .ok (.iload_n 3, 1) := by decide +kernel
theorem dL_law_282 : decode cL_law 282 = .ok (.iconst 1, 1) := by decide +kernel
theorem dL_law_283 : decode cL_law 283 = .ok (.iadd, 1) := by decide +kernel
theorem dL_law_284 : decode cL_law 284 = .ok (.iaload, 1) := by decide +kernel
theorem dL_law_285 : decode cL_law 285 = .ok (.invokevirtual 36, 3) := by decide +kernel
theorem dL_law_288 : decode cL_law 288 = .ok (.if_icmp .eq 183, 3) := by decide +kernel
theorem dL_law_291 : decode cL_law 291 = .ok (.iconst 0, 1) := by decide +kernel
theorem dL_law_292 : decode cL_law 292 = .ok (.ireturn, 1) := by decide +kernel
theorem dL_law_293 : decode cL_law 293 = .ok (.aload_n 1, 1) := by decide +kernel
theorem dL_law_294 : decode cL_law 294 = .ok (.aload_n 0, 1) := by decide +kernel
theorem dL_law_295 : decode cL_law 295 = .ok (.iload_n 3, 1) := by decide +kernel
theorem dL_law_296 : decode cL_law 296 = .ok (.iconst 1, 1) := by decide +kernel
theorem dL_law_297 : decode cL_law 297 = .ok (.iadd, 1) := by decide +kernel
theorem dL_law_298 : decode cL_law 298 = .ok (.iaload, 1) := by decide +kernel
theorem dL_law_299 : decode cL_law 299 = .ok (.invokevirtual 37, 3) := by decide +kernel
theorem dL_law_302 : decode cL_law 302 = .ok (.aload_n 2, 1) := by decide +kernel
theorem dL_law_303 : decode cL_law 303 = .ok (.aload_n 0, 1) := by decide +kernel
theorem dL_law_304 : decode cL_law 304 = .ok (.iload_n 3, 1) := by decide +kernel
theorem dL_law_305 : decode cL_law 305 = .ok (.iconst 1, 1) := by decide +kernel
theorem dL_law_306 : decode cL_law 306 = .ok (.iadd, 1) := by decide +kernel
theorem dL_law_307 : decode cL_law 307 = .ok (.iaload, 1) := by decide +kernel
theorem dL_law_308 : decode cL_law 308 = .ok (.invokevirtual 40, 3) := by decide +kernel
theorem dL_law_311 : decode cL_law 311 = .ok (.if_icmp .eq 160, 3) := by decide +kernel
theorem dL_law_314 : decode cL_law 314 = .ok (.iconst 0, 1) := by decide +kernel
theorem dL_law_315 : decode cL_law 315 = .ok (.ireturn, 1) := by decide +kernel
theorem dL_law_316 : decode cL_law 316 = .ok (.aload_n 1, 1) := by decide +kernel
theorem dL_law_317 : decode cL_law 317 = .ok (.aload_n 0, 1) := by decide +kernel
theorem dL_law_318 : decode cL_law 318 = .ok (.iload_n 3, 1) := by decide +kernel
theorem dL_law_319 : decode cL_law 319 = .ok (.iconst 1, 1) := by decide +kernel
theorem dL_law_320 : decode cL_law 320 = .ok (.iadd, 1) := by decide +kernel
theorem dL_law_321 : decode cL_law 321 = .ok (.iaload, 1) := by decide +kernel
theorem dL_law_322 : decode cL_law 322 = .ok (.aload_n 0, 1) := by decide +kernel
theorem dL_law_323 : decode cL_law 323 = .ok (.iload_n 3, 1) := by decide +kernel
theorem dL_law_324 : decode cL_law 324 = .ok (.iconst 2, 1) := by decide +kernel
theorem dL_law_325 : decode cL_law 325 = .ok (.iadd, 1) := by decide +kernel
theorem dL_law_326 : decode cL_law 326 = .ok (.iaload, 1) := by decide +kernel
theorem dL_law_327 : decode cL_law 327 = .ok (.invokevirtual 41, 3) := by decide +kernel
theorem dL_law_330 : decode cL_law 330 = .ok (.aload_n 2, 1) := by decide +kernel
theorem dL_law_331 : decode cL_law 331 = .ok (.aload_n 0, 1) := by decide +kernel
theorem dL_law_332 : decode cL_law 332 = .ok (.iload_n 3, 1) := by decide +kernel
theorem dL_law_333 : decode cL_law 333 = .ok (.iconst 1, 1) := by decide +kernel
theorem dL_law_334 : decode cL_law 334 = .ok (.iadd, 1) := by decide +kernel
theorem dL_law_335 : decode cL_law 335 = .ok (.iaload, 1) := by decide +kernel
theorem dL_law_336 : decode cL_law 336 = .ok (.aload_n 0, 1) := by decide +kernel
theorem dL_law_337 : decode cL_law 337 = .ok (.iload_n 3, 1) := by decide +kernel
theorem dL_law_338 : decode cL_law 338 = .ok (.iconst 2, 1) := by decide +kernel
theorem dL_law_339 : decode cL_law 339 = .ok (.iadd, 1) := by decide +kernel
theorem dL_law_340 : decode cL_law 340 = .ok (.iaload, 1) := by decide +kernel
theorem dL_law_341 : decode cL_law 341 = .ok (.invokevirtual 45, 3) := by decide +kernel
theorem dL_law_344 : decode cL_law 344 = .ok (.if_icmp .eq 127, 3) := by decide +kernel
theorem dL_law_347 : decode cL_law 347 = .ok (.iconst 0, 1) := by decide +kernel
theorem dL_law_348 : decode cL_law 348 = .ok (.ireturn, 1) := by decide +kernel
theorem dL_law_349 : decode cL_law 349 = .ok (.aload_n 1, 1) := by decide +kernel
theorem dL_law_350 : decode cL_law 350 = .ok (.aload_n 0, 1) := by decide +kernel
theorem dL_law_351 : decode cL_law 351 = .ok (.iload_n 3, 1) := by decide +kernel
theorem dL_law_352 : decode cL_law 352 = .ok (.iconst 1, 1) := by decide +kernel
theorem dL_law_353 : decode cL_law 353 = .ok (.iadd, 1) := by decide +kernel
theorem dL_law_354 : decode cL_law 354 = .ok (.iaload, 1) := by decide +kernel
theorem dL_law_355 : decode cL_law 355 = .ok (.aload_n 0, 1) := by decide +kernel
theorem dL_law_356 : decode cL_law 356 = .ok (.iload_n 3, 1) := by decide +kernel
theorem dL_law_357 : decode cL_law 357 = .ok (.iconst 2, 1) := by decide +kernel
theorem dL_law_358 : decode cL_law 358 = .ok (.iadd, 1) := by decide +kernel
theorem dL_law_359 : decode cL_law 359 = .ok (.iaload, 1) := by decide +kernel
theorem dL_law_360 : decode cL_law 360 = .ok (.invokevirtual 46, 3) := by decide +kernel
theorem dL_law_363 : decode cL_law 363 = .ok (.aload_n 2, 1) := by decide +kernel
theorem dL_law_364 : decode cL_law 364 = .ok (.aload_n 0, 1) := by decide +kernel
theorem dL_law_365 : decode cL_law 365 = .ok (.iload_n 3, 1) := by decide +kernel
theorem dL_law_366 : decode cL_law 366 = .ok (.iconst 1, 1) := by decide +kernel
theorem dL_law_367 : decode cL_law 367 = .ok (.iadd, 1) := by decide +kernel
theorem dL_law_368 : decode cL_law 368 = .ok (.iaload, 1) := by decide +kernel
theorem dL_law_369 : decode cL_law 369 = .ok (.aload_n 0, 1) := by decide +kernel
theorem dL_law_370 : decode cL_law 370 = .ok (.iload_n 3, 1) := by decide +kernel
theorem dL_law_371 : decode cL_law 371 = .ok (.iconst 2, 1) := by decide +kernel
theorem dL_law_372 : decode cL_law 372 = .ok (.iadd, 1) := by decide +kernel
theorem dL_law_373 : decode cL_law 373 = .ok (.iaload, 1) := by decide +kernel
theorem dL_law_374 : decode cL_law 374 = .ok (.invokevirtual 49, 3) := by decide +kernel
theorem dL_law_377 : decode cL_law 377 = .ok (.if_icmp .eq 94, 3) := by decide +kernel
theorem dL_law_380 : decode cL_law 380 = .ok (.iconst 0, 1) := by decide +kernel
theorem dL_law_381 : decode cL_law 381 = .ok (.ireturn, 1) := by decide +kernel
theorem dL_law_382 : decode cL_law 382 = .ok (.aload_n 1, 1) := by decide +kernel
theorem dL_law_383 : decode cL_law 383 = .ok (.aload_n 0, 1) := by decide +kernel
theorem dL_law_384 : decode cL_law 384 = .ok (.iload_n 3, 1) := by decide +kernel
theorem dL_law_385 : decode cL_law 385 = .ok (.iconst 1, 1) := by decide +kernel
theorem dL_law_386 : decode cL_law 386 = .ok (.iadd, 1) := by decide +kernel
theorem dL_law_387 : decode cL_law 387 = .ok (.iaload, 1) := by decide +kernel
theorem dL_law_388 : decode cL_law 388 = .ok (.invokevirtual 50, 3) := by decide +kernel
theorem dL_law_391 : decode cL_law 391 = .ok (.aload_n 2, 1) := by decide +kernel
theorem dL_law_392 : decode cL_law 392 = .ok (.aload_n 0, 1) := by decide +kernel
theorem dL_law_393 : decode cL_law 393 = .ok (.iload_n 3, 1) := by decide +kernel
theorem dL_law_394 : decode cL_law 394 = .ok (.iconst 1, 1) := by decide +kernel
theorem dL_law_395 : decode cL_law 395 = .ok (.iadd, 1) := by decide +kernel
theorem dL_law_396 : decode cL_law 396 = .ok (.iaload, 1) := by decide +kernel
theorem dL_law_397 : decode cL_law 397 = .ok (.invokevirtual 53, 3) := by decide +kernel
theorem dL_law_400 : decode cL_law 400 = .ok (.if_icmp .eq 71, 3) := by decide +kernel
theorem dL_law_403 : decode cL_law 403 = .ok (.iconst 0, 1) := by decide +kernel
theorem dL_law_404 : decode cL_law 404 = .ok (.ireturn, 1) := by decide +kernel
theorem dL_law_405 : decode cL_law 405 = .ok (.aload_n 1, 1) := by decide +kernel
theorem dL_law_406 : decode cL_law 406 = .ok (.aload_n 0, 1) := by decide +kernel
theorem dL_law_407 : decode cL_law 407 = .ok (.iload_n 3, 1) := by decide +kernel
theorem dL_law_408 : decode cL_law 408 = .ok (.iconst 1, 1) := by decide +kernel
theorem dL_law_409 : decode cL_law 409 = .ok (.iadd, 1) := by decide +kernel
theorem dL_law_410 : decode cL_law 410 = .ok (.iaload, 1) := by decide +kernel
theorem dL_law_411 : decode cL_law 411 = .ok (.aload_n 0, 1) := by decide +kernel
theorem dL_law_412 : decode cL_law 412 = .ok (.iload_n 3, 1) := by decide +kernel
theorem dL_law_413 : decode cL_law 413 = .ok (.iconst 2, 1) := by decide +kernel
theorem dL_law_414 : decode cL_law 414 = .ok (.iadd, 1) := by decide +kernel
theorem dL_law_415 : decode cL_law 415 = .ok (.iaload, 1) := by decide +kernel
theorem dL_law_416 : decode cL_law 416 = .ok (.invokevirtual 54, 3) := by decide +kernel
theorem dL_law_419 : decode cL_law 419 = .ok (.aload_n 2, 1) := by decide +kernel
theorem dL_law_420 : decode cL_law 420 = .ok (.aload_n 0, 1) := by decide +kernel
theorem dL_law_421 : decode cL_law 421 = .ok (.iload_n 3, 1) := by decide +kernel
theorem dL_law_422 : decode cL_law 422 = .ok (.iconst 1, 1) := by decide +kernel
theorem dL_law_423 : decode cL_law 423 = .ok (.iadd, 1) := by decide +kernel
theorem dL_law_424 : decode cL_law 424 = .ok (.iaload, 1) := by decide +kernel
theorem dL_law_425 : decode cL_law 425 = .ok (.aload_n 0, 1) := by decide +kernel
theorem dL_law_426 : decode cL_law 426 = .ok (.iload_n 3, 1) := by decide +kernel
theorem dL_law_427 : decode cL_law 427 = .ok (.iconst 2, 1) := by decide +kernel
theorem dL_law_428 : decode cL_law 428 = .ok (.iadd, 1) := by decide +kernel
theorem dL_law_429 : decode cL_law 429 = .ok (.iaload, 1) := by decide +kernel
theorem dL_law_430 : decode cL_law 430 = .ok (.invokevirtual 57, 3) := by decide +kernel
theorem dL_law_433 : decode cL_law 433 = .ok (.if_icmp .eq 38, 3) := by decide +kernel
theorem dL_law_436 : decode cL_law 436 = .ok (.iconst 0, 1) := by decide +kernel
theorem dL_law_437 : decode cL_law 437 = .ok (.ireturn, 1) := by decide +kernel
theorem dL_law_438 : decode cL_law 438 = .ok (.aload_n 1, 1) := by decide +kernel
theorem dL_law_439 : decode cL_law 439 = .ok (.aload_n 0, 1) := by decide +kernel
theorem dL_law_440 : decode cL_law 440 = .ok (.iload_n 3, 1) := by decide +kernel
theorem dL_law_441 : decode cL_law 441 = .ok (.iconst 1, 1) := by decide +kernel
theorem dL_law_442 : decode cL_law 442 = .ok (.iadd, 1) := by decide +kernel
theorem dL_law_443 : decode cL_law 443 = .ok (.iaload, 1) := by decide +kernel
theorem dL_law_444 : decode cL_law 444 = .ok (.aload_n 0, 1) := by decide +kernel
theorem dL_law_445 : decode cL_law 445 = .ok (.iload_n 3, 1) := by decide +kernel
theorem dL_law_446 : decode cL_law 446 = .ok (.iconst 2, 1) := by decide +kernel
theorem dL_law_447 : decode cL_law 447 = .ok (.iadd, 1) := by decide +kernel
theorem dL_law_448 : decode cL_law 448 = .ok (.iaload, 1) := by decide +kernel
theorem dL_law_449 : decode cL_law 449 = .ok (.invokevirtual 58, 3) := by decide +kernel
theorem dL_law_452 : decode cL_law 452 = .ok (.aload_n 2, 1) := by decide +kernel
theorem dL_law_453 : decode cL_law 453 = .ok (.aload_n 0, 1) := by decide +kernel
theorem dL_law_454 : decode cL_law 454 = .ok (.iload_n 3, 1) := by decide +kernel
theorem dL_law_455 : decode cL_law 455 = .ok (.iconst 1, 1) := by decide +kernel
theorem dL_law_456 : decode cL_law 456 = .ok (.iadd, 1) := by decide +kernel
theorem dL_law_457 : decode cL_law 457 = .ok (.iaload, 1) := by decide +kernel
theorem dL_law_458 : decode cL_law 458 = .ok (.aload_n 0, 1) := by decide +kernel
theorem dL_law_459 : decode cL_law 459 = .ok (.iload_n 3, 1) := by decide +kernel
theorem dL_law_460 : decode cL_law 460 = .ok (.iconst 2, 1) := by decide +kernel
theorem dL_law_461 : decode cL_law 461 = .ok (.iadd, 1) := by decide +kernel
theorem dL_law_462 : decode cL_law 462 = .ok (.iaload, 1) := by decide +kernel
theorem dL_law_463 : decode cL_law 463 = .ok (.invokevirtual 61, 3) := by decide +kernel
theorem dL_law_466 : decode cL_law 466 = .ok (.if_icmp .eq 5, 3) := by decide +kernel
theorem dL_law_469 : decode cL_law 469 = .ok (.iconst 0, 1) := by decide +kernel
theorem dL_law_470 : decode cL_law 470 = .ok (.ireturn, 1) := by decide +kernel
theorem dL_law_471 : decode cL_law 471 = .ok (.iinc 3 5, 3) := by decide +kernel
theorem dL_law_474 : decode cL_law 474 = .ok (.goto (-456), 3) := by decide +kernel
theorem dL_law_477 : decode cL_law 477 = .ok (.iconst 1, 1) := by decide +kernel
theorem dL_law_478 : decode cL_law 478 = .ok (.ireturn, 1) := by decide +kernel
end
section
/-! rows over natural numbers: an instruction's row with its numbers as nI of naturals -/
theorem nb_sh : ∀ n, n < 32 → ((nI n &&& 31).toBitVec.smod 32).toNat = n := by decide +kernel
theorem nb_byte : ∀ v, v < 128 → (nI v).toInt8.toInt32 = nI v := by decide +kernel
theorem nb_short : ∀ v, v < 256 → (nI v).toInt16.toInt32 = nI v := by decide +kernel
theorem nb_nz (b : Bool) : vp_nar .boolean (nI b.toNat) = nI b.toNat := by cases b <;> decide +kernel
theorem nb_fun (F : Nat → Nat) (i v : Nat) : upd (fun k => nI (F k)) i (nI v) = (fun k => nI (va_up F i v k)) := by
  funext k
  by_cases h : k = i
  · simp [upd, va_up, h]
  · simp [upd, va_up, h]
theorem nb_funB (M : Nat → Bool) (i : Nat) (v : Bool) : upd (fun k => nI (M k).toNat) i (nI v.toNat) = (fun k => nI (va_up M i v k).toNat) := by
  funext k
  by_cases h : k = i
  · simp [upd, va_up, h]
  · simp [upd, va_up, h]
section NB
variable {p : Program} {l : Launch} {e : Env} {R : Room} {s : State} {m : MethodId} {args : Array Value} {below : List Frame} {meth : Method} {c : Code} {H : Heap} {locs : List Loc} {cells slots : Nat} {Q : State → Prop}
variable {cc : ByteArray} {pc : Nat} {ls : Array Slot} {rest : List Value}
theorem nb_top {x y : Int32} (h : x = y) (k : W p l e R s m args below meth c H locs cells slots Q (F0 m pc ls (.int y :: rest))) : W p l e R s m args below meth c H locs cells slots Q (F0 m pc ls (.int x :: rest)) := by
  rw [h]; exact k
theorem nb_iadd (hx : p.tables.exec = Jvm.exec) (hb : c.code = cc) {a b : Nat} (hd : decode cc pc = .ok (.iadd, 1)) (k : W p l e R s m args below meth c H locs cells slots Q (F0 m (pc + 1) ls (.int (nI (a + b)) :: rest))) : W p l e R s m args below meth c H locs cells slots Q (F0 m pc ls (.int (nI b) :: .int (nI a) :: rest)) :=
  lv_iadd hx hb hd (nb_top (nI_add a b) k)
theorem nb_isub (hx : p.tables.exec = Jvm.exec) (hb : c.code = cc) {a b : Nat} (hd : decode cc pc = .ok (.isub, 1)) (h : b ≤ a) (k : W p l e R s m args below meth c H locs cells slots Q (F0 m (pc + 1) ls (.int (nI (a - b)) :: rest))) : W p l e R s m args below meth c H locs cells slots Q (F0 m pc ls (.int (nI b) :: .int (nI a) :: rest)) :=
  lv_isub hx hb hd (nb_top (pk_sub h) k)
theorem nb_imul (hx : p.tables.exec = Jvm.exec) (hb : c.code = cc) {a b : Nat} (hd : decode cc pc = .ok (.imul, 1)) (k : W p l e R s m args below meth c H locs cells slots Q (F0 m (pc + 1) ls (.int (nI (a * b)) :: rest))) : W p l e R s m args below meth c H locs cells slots Q (F0 m pc ls (.int (nI b) :: .int (nI a) :: rest)) :=
  lv_imul hx hb hd (nb_top (pk_mul a b) k)
theorem nb_iand (hx : p.tables.exec = Jvm.exec) (hb : c.code = cc) {a b : Nat} (hd : decode cc pc = .ok (.iand, 1)) (k : W p l e R s m args below meth c H locs cells slots Q (F0 m (pc + 1) ls (.int (nI (a &&& b)) :: rest))) : W p l e R s m args below meth c H locs cells slots Q (F0 m pc ls (.int (nI b) :: .int (nI a) :: rest)) :=
  lv_iand hx hb hd (nb_top (fa_and a b) k)
theorem nb_ixor (hx : p.tables.exec = Jvm.exec) (hb : c.code = cc) {a b : Nat} (hd : decode cc pc = .ok (.ixor, 1)) (k : W p l e R s m args below meth c H locs cells slots Q (F0 m (pc + 1) ls (.int (nI (a ^^^ b)) :: rest))) : W p l e R s m args below meth c H locs cells slots Q (F0 m pc ls (.int (nI b) :: .int (nI a) :: rest)) :=
  lv_ixor hx hb hd (nb_top (fb_xorI a b) k)
theorem nb_idiv (hx : p.tables.exec = Jvm.exec) (hb : c.code = cc) {a b : Nat} (hd : decode cc pc = .ok (.idiv, 1)) (ha : a < 2 ^ 31) (h0 : 0 < b) (h1 : b < 2 ^ 31) (k : W p l e R s m args below meth c H locs cells slots Q (F0 m (pc + 1) ls (.int (nI (a / b)) :: rest))) : W p l e R s m args below meth c H locs cells slots Q (F0 m pc ls (.int (nI b) :: .int (nI a) :: rest)) :=
  lv_idiv hx hb hd (nI_ne0 h0 h1) (nb_top (pk_div ha h0 h1) k)
theorem nb_irem (hx : p.tables.exec = Jvm.exec) (hb : c.code = cc) {a b : Nat} (hd : decode cc pc = .ok (.irem, 1)) (ha : a < 2 ^ 31) (h0 : 0 < b) (h1 : b < 2 ^ 31) (k : W p l e R s m args below meth c H locs cells slots Q (F0 m (pc + 1) ls (.int (nI (a % b)) :: rest))) : W p l e R s m args below meth c H locs cells slots Q (F0 m pc ls (.int (nI b) :: .int (nI a) :: rest)) :=
  lv_irem hx hb hd (nI_ne0 h0 h1) (nb_top (pk_rem ha h0 h1) k)
theorem nb_ishl (hx : p.tables.exec = Jvm.exec) (hb : c.code = cc) {a b : Nat} (hd : decode cc pc = .ok (.ishl, 1)) (h1 : b < 32) (h2 : a * 2 ^ b < 2 ^ 32) (k : W p l e R s m args below meth c H locs cells slots Q (F0 m (pc + 1) ls (.int (nI (a * 2 ^ b)) :: rest))) : W p l e R s m args below meth c H locs cells slots Q (F0 m pc ls (.int (nI b) :: .int (nI a) :: rest)) :=
  lv_ishl hx hb hd (nb_top (pk_shlN _ b (nb_sh b h1) h2) k)
theorem nb_ishr (hx : p.tables.exec = Jvm.exec) (hb : c.code = cc) {a b : Nat} (hd : decode cc pc = .ok (.ishr, 1)) (h1 : b < 32) (h2 : a < 2 ^ 31) (k : W p l e R s m args below meth c H locs cells slots Q (F0 m (pc + 1) ls (.int (nI (a / 2 ^ b)) :: rest))) : W p l e R s m args below meth c H locs cells slots Q (F0 m pc ls (.int (nI b) :: .int (nI a) :: rest)) :=
  lv_ishr hx hb hd (nb_top (pk_shrN h2 _ b (nb_sh b h1)) k)
theorem nb_i2s (hx : p.tables.exec = Jvm.exec) (hb : c.code = cc) {a : Nat} (hd : decode cc pc = .ok (.i2s, 1)) (h : a < 256) (k : W p l e R s m args below meth c H locs cells slots Q (F0 m (pc + 1) ls (.int (nI a) :: rest))) : W p l e R s m args below meth c H locs cells slots Q (F0 m pc ls (.int (nI a) :: rest)) :=
  lv_i2s hx hb hd (nb_short a h) k
theorem nb_i2b (hx : p.tables.exec = Jvm.exec) (hb : c.code = cc) {a : Nat} (hd : decode cc pc = .ok (.i2b, 1)) (h : a < 128) (k : W p l e R s m args below meth c H locs cells slots Q (F0 m (pc + 1) ls (.int (nI a) :: rest))) : W p l e R s m args below meth c H locs cells slots Q (F0 m pc ls (.int (nI a) :: rest)) :=
  lv_i2b hx hb hd (nb_byte a h) k
theorem nb_icmp_eq (hx : p.tables.exec = Jvm.exec) (hb : c.code = cc) {a b : Nat} {off : Int} {tgt : Nat} (hd : decode cc pc = .ok (.if_icmp .eq off, 3)) (ht : (pc : Int) + off = (tgt : Int)) (h1 : a < 2 ^ 31) (h2 : b < 2 ^ 31)
    (kt : a = b → W p l e R s m args below meth c H locs cells slots Q (F0 m tgt ls rest)) (kf : a ≠ b → W p l e R s m args below meth c H locs cells slots Q (F0 m (pc + 3) ls rest)) : W p l e R s m args below meth c H locs cells slots Q (F0 m pc ls (.int (nI b) :: .int (nI a) :: rest)) :=
  lv_icmp_eq hx hb hd ht (fun h => kt ((nI_eq h1 h2).mp h)) (fun h => kf (fun g => h ((nI_eq h1 h2).mpr g)))
theorem nb_icmp_ne (hx : p.tables.exec = Jvm.exec) (hb : c.code = cc) {a b : Nat} {off : Int} {tgt : Nat} (hd : decode cc pc = .ok (.if_icmp .ne off, 3)) (ht : (pc : Int) + off = (tgt : Int)) (h1 : a < 2 ^ 31) (h2 : b < 2 ^ 31)
    (kt : a ≠ b → W p l e R s m args below meth c H locs cells slots Q (F0 m tgt ls rest)) (kf : a = b → W p l e R s m args below meth c H locs cells slots Q (F0 m (pc + 3) ls rest)) : W p l e R s m args below meth c H locs cells slots Q (F0 m pc ls (.int (nI b) :: .int (nI a) :: rest)) :=
  lv_icmp_ne hx hb hd ht (fun h => kt (fun g => h ((nI_eq h1 h2).mpr g))) (fun h => kf ((nI_eq h1 h2).mp h))
theorem nb_icmp_lt (hx : p.tables.exec = Jvm.exec) (hb : c.code = cc) {a b : Nat} {off : Int} {tgt : Nat} (hd : decode cc pc = .ok (.if_icmp .lt off, 3)) (ht : (pc : Int) + off = (tgt : Int)) (h1 : a < 2 ^ 31) (h2 : b < 2 ^ 31)
    (kt : a < b → W p l e R s m args below meth c H locs cells slots Q (F0 m tgt ls rest)) (kf : b ≤ a → W p l e R s m args below meth c H locs cells slots Q (F0 m (pc + 3) ls rest)) : W p l e R s m args below meth c H locs cells slots Q (F0 m pc ls (.int (nI b) :: .int (nI a) :: rest)) :=
  lv_icmp_lt hx hb hd ht (fun h => kt ((nI_ltI h1 h2).mp h)) (fun h => kf (Nat.not_lt.mp (fun g => h ((nI_ltI h1 h2).mpr g))))
theorem nb_icmp_ge (hx : p.tables.exec = Jvm.exec) (hb : c.code = cc) {a b : Nat} {off : Int} {tgt : Nat} (hd : decode cc pc = .ok (.if_icmp .ge off, 3)) (ht : (pc : Int) + off = (tgt : Int)) (h1 : a < 2 ^ 31) (h2 : b < 2 ^ 31)
    (kt : b ≤ a → W p l e R s m args below meth c H locs cells slots Q (F0 m tgt ls rest)) (kf : a < b → W p l e R s m args below meth c H locs cells slots Q (F0 m (pc + 3) ls rest)) : W p l e R s m args below meth c H locs cells slots Q (F0 m pc ls (.int (nI b) :: .int (nI a) :: rest)) :=
  lv_icmp_ge hx hb hd ht (fun h => kt ((nI_leI h2 h1).mp h)) (fun h => kf (Nat.not_le.mp (fun g => h ((nI_leI h2 h1).mpr g))))
theorem nb_icmp_gt (hx : p.tables.exec = Jvm.exec) (hb : c.code = cc) {a b : Nat} {off : Int} {tgt : Nat} (hd : decode cc pc = .ok (.if_icmp .gt off, 3)) (ht : (pc : Int) + off = (tgt : Int)) (h1 : a < 2 ^ 31) (h2 : b < 2 ^ 31)
    (kt : b < a → W p l e R s m args below meth c H locs cells slots Q (F0 m tgt ls rest)) (kf : a ≤ b → W p l e R s m args below meth c H locs cells slots Q (F0 m (pc + 3) ls rest)) : W p l e R s m args below meth c H locs cells slots Q (F0 m pc ls (.int (nI b) :: .int (nI a) :: rest)) :=
  lv_icmp_gt hx hb hd ht (fun h => kt ((nI_ltI h2 h1).mp h)) (fun h => kf (Nat.not_lt.mp (fun g => h ((nI_ltI h2 h1).mpr g))))
theorem nb_icmp_le (hx : p.tables.exec = Jvm.exec) (hb : c.code = cc) {a b : Nat} {off : Int} {tgt : Nat} (hd : decode cc pc = .ok (.if_icmp .le off, 3)) (ht : (pc : Int) + off = (tgt : Int)) (h1 : a < 2 ^ 31) (h2 : b < 2 ^ 31)
    (kt : a ≤ b → W p l e R s m args below meth c H locs cells slots Q (F0 m tgt ls rest)) (kf : b < a → W p l e R s m args below meth c H locs cells slots Q (F0 m (pc + 3) ls rest)) : W p l e R s m args below meth c H locs cells slots Q (F0 m pc ls (.int (nI b) :: .int (nI a) :: rest)) :=
  lv_icmp_le hx hb hd ht (fun h => kt ((nI_leI h1 h2).mp h)) (fun h => kf (Nat.not_le.mp (fun g => h ((nI_leI h1 h2).mpr g))))
theorem nb_if_eq (hx : p.tables.exec = Jvm.exec) (hb : c.code = cc) {a : Nat} {off : Int} {tgt : Nat} (hd : decode cc pc = .ok (.ifCond .eq off, 3)) (ht : (pc : Int) + off = (tgt : Int)) (h1 : a < 2 ^ 31)
    (kt : a = 0 → W p l e R s m args below meth c H locs cells slots Q (F0 m tgt ls rest)) (kf : 0 < a → W p l e R s m args below meth c H locs cells slots Q (F0 m (pc + 3) ls rest)) : W p l e R s m args below meth c H locs cells slots Q (F0 m pc ls (.int (nI a) :: rest)) :=
  lv_if_eq hx hb hd ht (fun h => kt (by rcases Nat.eq_zero_or_pos a with q | q; exact q; exact absurd h (nI_ne0 q h1))) (fun h => kf (by rcases Nat.eq_zero_or_pos a with q | q; exact absurd (by rw [q]; exact nI_0) h; exact q))
theorem nb_if_ne (hx : p.tables.exec = Jvm.exec) (hb : c.code = cc) {a : Nat} {off : Int} {tgt : Nat} (hd : decode cc pc = .ok (.ifCond .ne off, 3)) (ht : (pc : Int) + off = (tgt : Int)) (h1 : a < 2 ^ 31)
    (kt : 0 < a → W p l e R s m args below meth c H locs cells slots Q (F0 m tgt ls rest)) (kf : a = 0 → W p l e R s m args below meth c H locs cells slots Q (F0 m (pc + 3) ls rest)) : W p l e R s m args below meth c H locs cells slots Q (F0 m pc ls (.int (nI a) :: rest)) :=
  lv_if_ne hx hb hd ht (fun h => kt (by rcases Nat.eq_zero_or_pos a with q | q; exact absurd (by rw [q]; exact nI_0) h; exact q)) (fun h => kf (by rcases Nat.eq_zero_or_pos a with q | q; exact q; exact absurd h (nI_ne0 q h1)))
theorem nb_if_le (hx : p.tables.exec = Jvm.exec) (hb : c.code = cc) {a : Nat} {off : Int} {tgt : Nat} (hd : decode cc pc = .ok (.ifCond .le off, 3)) (ht : (pc : Int) + off = (tgt : Int)) (h1 : a < 2 ^ 31)
    (kt : a = 0 → W p l e R s m args below meth c H locs cells slots Q (F0 m tgt ls rest)) (kf : 0 < a → W p l e R s m args below meth c H locs cells slots Q (F0 m (pc + 3) ls rest)) : W p l e R s m args below meth c H locs cells slots Q (F0 m pc ls (.int (nI a) :: rest)) :=
  lv_if_le hx hb hd ht (fun h => kt (by rcases Nat.eq_zero_or_pos a with q | q; exact q; exact absurd h (nI_nle q h1))) (fun h => kf (by rcases Nat.eq_zero_or_pos a with q | q; exact absurd (by rw [q, nI_0]; decide) h; exact q))
theorem nb_if_lt (hx : p.tables.exec = Jvm.exec) (hb : c.code = cc) {a : Nat} {off : Int} {tgt : Nat} (hd : decode cc pc = .ok (.ifCond .lt off, 3)) (ht : (pc : Int) + off = (tgt : Int)) (h1 : a < 2 ^ 31)
    (kf : W p l e R s m args below meth c H locs cells slots Q (F0 m (pc + 3) ls rest)) : W p l e R s m args below meth c H locs cells slots Q (F0 m pc ls (.int (nI a) :: rest)) :=
  lv_if_lt hx hb hd ht (fun h => absurd h (nI_pos h1)) (fun _ => kf)
theorem nb_if_ge (hx : p.tables.exec = Jvm.exec) (hb : c.code = cc) {a : Nat} {off : Int} {tgt : Nat} (hd : decode cc pc = .ok (.ifCond .ge off, 3)) (ht : (pc : Int) + off = (tgt : Int)) (h1 : a < 2 ^ 31)
    (kt : W p l e R s m args below meth c H locs cells slots Q (F0 m tgt ls rest)) : W p l e R s m args below meth c H locs cells slots Q (F0 m pc ls (.int (nI a) :: rest)) :=
  lv_if_ge hx hb hd ht (fun _ => kt) (fun h => absurd (nI_pos' h1) h)
theorem nb_if_eqB (hx : p.tables.exec = Jvm.exec) (hb : c.code = cc) {b : Bool} {off : Int} {tgt : Nat} (hd : decode cc pc = .ok (.ifCond .eq off, 3)) (ht : (pc : Int) + off = (tgt : Int))
    (kt : b = false → W p l e R s m args below meth c H locs cells slots Q (F0 m tgt ls rest)) (kf : b = true → W p l e R s m args below meth c H locs cells slots Q (F0 m (pc + 3) ls rest)) : W p l e R s m args below meth c H locs cells slots Q (F0 m pc ls (.int (nI b.toNat) :: rest)) := by
  cases b
  · exact lv_if_eq hx hb hd ht (fun _ => kt rfl) (fun h => absurd (by decide +kernel) h)
  · exact lv_if_eq hx hb hd ht (fun h => absurd h (by decide +kernel)) (fun _ => kf rfl)
theorem nb_if_neB (hx : p.tables.exec = Jvm.exec) (hb : c.code = cc) {b : Bool} {off : Int} {tgt : Nat} (hd : decode cc pc = .ok (.ifCond .ne off, 3)) (ht : (pc : Int) + off = (tgt : Int))
    (kt : b = true → W p l e R s m args below meth c H locs cells slots Q (F0 m tgt ls rest)) (kf : b = false → W p l e R s m args below meth c H locs cells slots Q (F0 m (pc + 3) ls rest)) : W p l e R s m args below meth c H locs cells slots Q (F0 m pc ls (.int (nI b.toNat) :: rest)) := by
  cases b
  · exact lv_if_ne hx hb hd ht (fun h => absurd (by decide +kernel) h) (fun _ => kf rfl)
  · exact lv_if_ne hx hb hd ht (fun _ => kt rfl) (fun h => absurd h (by decide +kernel))
variable {D : va_G} {cl : List vw_C} {A : Nat → Prop} {a : Nat} {tys : List (ClassId × FieldType)} {ws : va_W} {H0 : Heap}
theorem nb_iald (hx : p.tables.exec = Jvm.exec) (hb : c.code = cc) (hK : va_K D cl tys s) (hP : va_P D cl ws H) (q0 t0 : Nat) {cA : ClassId} {n : Nat} {F : Nat → Nat} (ha : ws[q0]? = some (a, .inl (cA, n, .inl (fun k => nI (F k))))) (ht : tys[t0]? = some (cA, .int)) {i : Nat} (hi : i < n) (hn : n < 2 ^ 31) (hd : decode cc pc = .ok (.iaload, 1))
    (kk : W p l e R s m args below meth c H locs cells slots Q (F0 m (pc + 1) ls (.int (nI (F i)) :: rest))) : W p l e R s m args below meth c H locs cells slots Q (F0 m pc ls (.int (nI i) :: .ref a :: rest)) :=
  va_iald hx hb hK hP q0 t0 ha ht (vp_in_nI hi hn) hd (by rw [nI_clamp (Nat.lt_trans hi hn)]; exact kk)
theorem nb_bald (hx : p.tables.exec = Jvm.exec) (hb : c.code = cc) (hK : va_K D cl tys s) (hP : va_P D cl ws H) (q0 t0 : Nat) {cA : ClassId} {n : Nat} {F : Nat → Nat} (ha : ws[q0]? = some (a, .inl (cA, n, .inl (fun k => nI (F k))))) (ht : tys[t0]? = some (cA, .byte)) {i : Nat} (hi : i < n) (hn : n < 2 ^ 31) (hd : decode cc pc = .ok (.baload, 1))
    (kk : W p l e R s m args below meth c H locs cells slots Q (F0 m (pc + 1) ls (.int (nI (F i)) :: rest))) : W p l e R s m args below meth c H locs cells slots Q (F0 m pc ls (.int (nI i) :: .ref a :: rest)) :=
  va_bald hx hb hK hP q0 t0 ha ht (vp_in_nI hi hn) hd (by rw [nI_clamp (Nat.lt_trans hi hn)]; exact kk)
theorem nb_sald (hx : p.tables.exec = Jvm.exec) (hb : c.code = cc) (hK : va_K D cl tys s) (hP : va_P D cl ws H) (q0 t0 : Nat) {cA : ClassId} {n : Nat} {F : Nat → Nat} (ha : ws[q0]? = some (a, .inl (cA, n, .inl (fun k => nI (F k))))) (ht : tys[t0]? = some (cA, .short)) {i : Nat} (hi : i < n) (hn : n < 2 ^ 31) (hd : decode cc pc = .ok (.saload, 1))
    (kk : W p l e R s m args below meth c H locs cells slots Q (F0 m (pc + 1) ls (.int (nI (F i)) :: rest))) : W p l e R s m args below meth c H locs cells slots Q (F0 m pc ls (.int (nI i) :: .ref a :: rest)) :=
  va_sald hx hb hK hP q0 t0 ha ht (vp_in_nI hi hn) hd (by rw [nI_clamp (Nat.lt_trans hi hn)]; exact kk)
theorem nb_zald (hx : p.tables.exec = Jvm.exec) (hb : c.code = cc) (hK : va_K D cl tys s) (hP : va_P D cl ws H) (q0 t0 : Nat) {cA : ClassId} {n : Nat} {M : Nat → Bool} (ha : ws[q0]? = some (a, .inl (cA, n, .inl (fun k => nI (M k).toNat)))) (ht : tys[t0]? = some (cA, .boolean)) {i : Nat} (hi : i < n) (hn : n < 2 ^ 31) (hd : decode cc pc = .ok (.baload, 1))
    (kk : W p l e R s m args below meth c H locs cells slots Q (F0 m (pc + 1) ls (.int (nI (M i).toNat) :: rest))) : W p l e R s m args below meth c H locs cells slots Q (F0 m pc ls (.int (nI i) :: .ref a :: rest)) :=
  va_zald hx hb hK hP q0 t0 ha ht (vp_in_nI hi hn) hd (by rw [nI_clamp (Nat.lt_trans hi hn)]; exact kk)
theorem nb_iast (hx : p.tables.exec = Jvm.exec) (hb : c.code = cc) (hK : va_K D cl tys s) (hP : va_P D cl ws H) (hD : va_D A ws) (hS : va_S A H0 H locs) (q0 t0 : Nat) {cA : ClassId} {n : Nat} {F : Nat → Nat} (ha : ws[q0]? = some (a, .inl (cA, n, .inl (fun k => nI (F k))))) (ht : tys[t0]? = some (cA, .int)) {i v : Nat} (hi : i < n) (hn : n < 2 ^ 31) (hd : decode cc pc = .ok (.iastore, 1))
    (kk : ∀ (H1 : Heap) (locs1 : List Loc), va_P D cl (ws.set q0 (a, .inl (cA, n, .inl (fun k => nI (va_up F i v k))))) H1 → va_D A (ws.set q0 (a, .inl (cA, n, .inl (fun k => nI (va_up F i v k))))) → va_S A H0 H1 locs1 → W p l e R s m args below meth c H1 locs1 cells slots Q (F0 m (pc + 1) ls rest)) : W p l e R s m args below meth c H locs cells slots Q (F0 m pc ls (.int (nI v) :: .int (nI i) :: .ref a :: rest)) := by
  refine va_iast hx hb hK hP hD hS q0 t0 ha ht (vp_in_nI hi hn) hd ?_
  rw [nI_clamp (Nat.lt_trans hi hn), nb_fun]
  exact kk
theorem nb_bast (hx : p.tables.exec = Jvm.exec) (hb : c.code = cc) (hK : va_K D cl tys s) (hP : va_P D cl ws H) (hD : va_D A ws) (hS : va_S A H0 H locs) (q0 t0 : Nat) {cA : ClassId} {n : Nat} {F : Nat → Nat} (ha : ws[q0]? = some (a, .inl (cA, n, .inl (fun k => nI (F k))))) (ht : tys[t0]? = some (cA, .byte)) {i v : Nat} (hi : i < n) (hn : n < 2 ^ 31) (hv : v < 128) (hd : decode cc pc = .ok (.bastore, 1))
    (kk : ∀ (H1 : Heap) (locs1 : List Loc), va_P D cl (ws.set q0 (a, .inl (cA, n, .inl (fun k => nI (va_up F i v k))))) H1 → va_D A (ws.set q0 (a, .inl (cA, n, .inl (fun k => nI (va_up F i v k))))) → va_S A H0 H1 locs1 → W p l e R s m args below meth c H1 locs1 cells slots Q (F0 m (pc + 1) ls rest)) : W p l e R s m args below meth c H locs cells slots Q (F0 m pc ls (.int (nI v) :: .int (nI i) :: .ref a :: rest)) := by
  refine va_bast hx hb hK hP hD hS q0 t0 ha ht (vp_in_nI hi hn) hd ?_
  rw [nI_clamp (Nat.lt_trans hi hn), vp_nar_byte, nb_byte v hv, nb_fun]
  exact kk
theorem nb_sast (hx : p.tables.exec = Jvm.exec) (hb : c.code = cc) (hK : va_K D cl tys s) (hP : va_P D cl ws H) (hD : va_D A ws) (hS : va_S A H0 H locs) (q0 t0 : Nat) {cA : ClassId} {n : Nat} {F : Nat → Nat} (ha : ws[q0]? = some (a, .inl (cA, n, .inl (fun k => nI (F k))))) (ht : tys[t0]? = some (cA, .short)) {i v : Nat} (hi : i < n) (hn : n < 2 ^ 31) (hv : v < 256) (hd : decode cc pc = .ok (.sastore, 1))
    (kk : ∀ (H1 : Heap) (locs1 : List Loc), va_P D cl (ws.set q0 (a, .inl (cA, n, .inl (fun k => nI (va_up F i v k))))) H1 → va_D A (ws.set q0 (a, .inl (cA, n, .inl (fun k => nI (va_up F i v k))))) → va_S A H0 H1 locs1 → W p l e R s m args below meth c H1 locs1 cells slots Q (F0 m (pc + 1) ls rest)) : W p l e R s m args below meth c H locs cells slots Q (F0 m pc ls (.int (nI v) :: .int (nI i) :: .ref a :: rest)) := by
  refine va_sast hx hb hK hP hD hS q0 t0 ha ht (vp_in_nI hi hn) hd ?_
  rw [nI_clamp (Nat.lt_trans hi hn), vp_nar_short, nb_short v hv, nb_fun]
  exact kk
theorem nb_zast (hx : p.tables.exec = Jvm.exec) (hb : c.code = cc) (hK : va_K D cl tys s) (hP : va_P D cl ws H) (hD : va_D A ws) (hS : va_S A H0 H locs) (q0 t0 : Nat) {cA : ClassId} {n : Nat} {M : Nat → Bool} (ha : ws[q0]? = some (a, .inl (cA, n, .inl (fun k => nI (M k).toNat)))) (ht : tys[t0]? = some (cA, .boolean)) {i : Nat} {v : Bool} (hi : i < n) (hn : n < 2 ^ 31) (hd : decode cc pc = .ok (.bastore, 1))
    (kk : ∀ (H1 : Heap) (locs1 : List Loc), va_P D cl (ws.set q0 (a, .inl (cA, n, .inl (fun k => nI (va_up M i v k).toNat)))) H1 → va_D A (ws.set q0 (a, .inl (cA, n, .inl (fun k => nI (va_up M i v k).toNat)))) → va_S A H0 H1 locs1 → W p l e R s m args below meth c H1 locs1 cells slots Q (F0 m (pc + 1) ls rest)) : W p l e R s m args below meth c H locs cells slots Q (F0 m pc ls (.int (nI v.toNat) :: .int (nI i) :: .ref a :: rest)) := by
  refine va_zast hx hb hK hP hD hS q0 t0 ha ht (vp_in_nI hi hn) hd ?_
  rw [nI_clamp (Nat.lt_trans hi hn), nb_nz, nb_funB]
  exact kk
end NB
end
section
/-! worlds of the two classes, contracts of methods that only read and of methods that write, their calls -/
abbrev vwCl : List vw_C := [(RX0, TX0, 8), (RX1, TX1, 4)]
/-- an object of CellUnion with its five arrays -/
abbrev wX (h0 a1 a2 a3 a4 a5 : Nat) (dB dS : ClassId) (C F L MF ML : Nat → Nat) (mc cx cy : Nat) : va_W :=
  [(h0, .inr (0, [.ref a1, .ref a2, .ref a3, .int (nI mc), .ref a4, .ref a5, .int (nI cx), .int (nI cy)])), (a1, .inl (dB, 5, .inl (fun k => nI (C k)))), (a2, .inl (dS, 200, .inl (fun k => nI (F k)))), (a3, .inl (dS, 200, .inl (fun k => nI (L k)))), (a4, .inl (dS, 84, .inl (fun k => nI (MF k)))), (a5, .inl (dS, 84, .inl (fun k => nI (ML k))))]
abbrev tX (dB dS : ClassId) : List (ClassId × FieldType) := [(dB, .byte), (dS, .short)]
abbrev XU : Type := (Nat → Nat) × (Nat → Nat) × (Nat → Nat) × (Nat → Nat) × (Nat → Nat) × Nat × Nat × Nat
abbrev uX (h0 a1 a2 a3 a4 a5 : Nat) (dB dS : ClassId) (u : XU) : va_W := wX h0 a1 a2 a3 a4 a5 dB dS u.1 u.2.1 u.2.2.1 u.2.2.2.1 u.2.2.2.2.1 u.2.2.2.2.2.1 u.2.2.2.2.2.2.1 u.2.2.2.2.2.2.2
/-- an object of CellUnionModel with its four arrays -/
abbrev wM (k0 b1 b2 b3 b4 : Nat) (dN dZ : ClassId) (Nm Pl : Nat → Nat) (Mk Th : Nat → Bool) : va_W :=
  [(k0, .inr (1, [.ref b1, .ref b2, .ref b3, .ref b4])), (b1, .inl (dN, 256, .inl (fun k => nI (Nm k)))), (b2, .inl (dN, 256, .inl (fun k => nI (Pl k)))), (b3, .inl (dZ, 1024, .inl (fun k => nI (Mk k).toNat))), (b4, .inl (dZ, 256, .inl (fun k => nI (Th k).toNat)))]
abbrev tM (dN dZ : ClassId) : List (ClassId × FieldType) := [(dN, .int), (dZ, .boolean)]
abbrev MU : Type := (Nat → Nat) × (Nat → Nat) × (Nat → Bool) × (Nat → Bool)
abbrev uM (k0 b1 b2 b3 b4 : Nat) (dN dZ : ClassId) (u : MU) : va_W := wM k0 b1 b2 b3 b4 dN dZ u.1 u.2.1 u.2.2.1 u.2.2.2
/-- a method that changes nothing, and answers r -/
abbrev MetR (l : Launch) (y : MethodName) (cc : ByteArray) (L : Nat) (ty : FieldType) (rm : Room) (av : List Value) (B : State → Prop) (r : Int32) : Prop :=
  Met l y (ws_ y cc L (some ty)) rm (va_Pc av B) (QcRead r) 0 0 (fun _ => False)
abbrev bW (D : va_G) (tys : List (ClassId × FieldType)) (w : va_W) : State → Prop := fun U => va_P D vwCl w U.heap ∧ va_K D vwCl tys U
/-- a method that changes cells of its world -/
abbrev bI (D : va_G) (tys : List (ClassId × FieldType)) (w : va_W) (sz : Nat) : State → Prop := fun U => U.heap.size = sz ∧ va_P D vwCl w U.heap ∧ va_K D vwCl tys U ∧ va_D (fun _ => True) w
abbrev MetI {S : Type} (l : Launch) (y : MethodName) (cc : ByteArray) (L : Nat) (rm : Room) (av : List Value) (D : va_G) (tys : List (ClassId × FieldType)) (w0 : va_W) (wf : S → va_W) (sz : Nat) (post : Int32 → S → Prop) : Prop :=
  Met l y (ws_ y cc L (some .int)) rm (va_Pc av (bI D tys w0 sz)) (va_Qi post (fun u t => va_P D vwCl (wf u) t.heap ∧ va_K D vwCl tys t ∧ va_D (va_A w0 sz) (wf u)) (va_A w0 sz)) 0 0 (va_A w0 sz)
abbrev MetV {S : Type} (l : Launch) (y : MethodName) (cc : ByteArray) (L : Nat) (rm : Room) (av : List Value) (D : va_G) (tys : List (ClassId × FieldType)) (w0 : va_W) (wf : S → va_W) (sz : Nat) (post : S → Prop) : Prop :=
  Met l y (ws_ y cc L none) rm (va_Pc av (bI D tys w0 sz)) (va_Qv post (fun u t => va_P D vwCl (wf u) t.heap ∧ va_K D vwCl tys t ∧ va_D (va_A w0 sz) (wf u)) (va_A w0 sz)) 0 0 (va_A w0 sz)
set_option maxHeartbeats 4000000 in
theorem metR_of {l : Launch} {y : MethodName} {cc : ByteArray} {L : Nat} {ty : FieldType} {rm : Room} {av : List Value} {B : State → Prop} {r : Int32} (hy : plainName y.cls = true) (hsl : (lg_sl av).length ≤ L) (hn : narrow ty (.int r) = .int r)
    (body : ∀ (p : Program) (e : Env) (s : State) (m : MethodId) (args : Array Value) (below : List Frame) (meth : Method) (c : Code) (H : Heap) (Q : State → Prop), CallFix p m c cc L s args lw_all y.cls → s.heap = H → B s →
      (∀ (pc : Nat) (ls : Array Slot) (v : Int32), decode cc pc = .ok (.ireturn, 1) → v = r → W p l e rm s m args below meth c H [] 0 0 Q (F0 m pc ls [.int v])) →
      ∀ ls : Array Slot, lv_has ls L (lv_args 0 av) → W p l e rm s m args below meth c H [] 0 0 Q (F0 m 0 ls [])) : MetR l y cc L ty rm av B r := by
  refine Met.ofW (cc := cc) (maxL := L) (ret := some ty) hy rfl ?_
  intro p e s m args below meth c s₁ Bd hml hv
  obtain ⟨rfl, hB⟩ := hv
  have hx := Bd.exec
  have hb := Bd.bytes
  have hr := Bd.returns
  have hts := atoms_spec (ws := ws_ y cc L (some ty)) Bd.pre
  have hts : ∀ w ∈ lw_all, w.before _ s = true := fun w h => hts w (List.mem_cons_of_mem _ h)
  have hown : s.vm.findClass y.cls = some m.cls := findClass_of_methodNamed Bd.named
  have hlocks := Bd.notSynchronized
  have hl := lv_entry av (n := L) hsl
  rw [lg_entry_eq]
  generalize (lg_sl av ++ List.replicate (L - (lg_sl av).length) Slot.unset).toArray = ls at hl ⊢
  refine body p e s m _ below meth c s.heap _ ⟨hx, hb, hml, hown, hts⟩ rfl hB (fun pc ls v hd hv => ?_) ls hl
  subst hv
  exact W.zret hx hb hr hn (fun t ht hW => ⟨rfl, ht⟩) (fun q h => by cases h) hd
set_option maxHeartbeats 4000000 in
theorem metI_of {S : Type} {l : Launch} {y : MethodName} {cc : ByteArray} {L : Nat} {rm : Room} {av : List Value} {D : va_G} {tys : List (ClassId × FieldType)} {w0 : va_W} {wf : S → va_W} {sz : Nat} {post : Int32 → S → Prop} (hy : plainName y.cls = true) (hsl : (lg_sl av).length ≤ L)
    (body : ∀ (p : Program) (e : Env) (s : State) (m : MethodId) (args : Array Value) (below : List Frame) (meth : Method) (c : Code) (A : Nat → Prop) (H0 : Heap) (Q : State → Prop), CallFix p m c cc L s args lw_all y.cls → va_K D vwCl tys s → (∀ q : Nat, H0.size ≤ q → A q) → va_P D vwCl w0 H0 → va_D A w0 → va_S A H0 H0 [] →
      (∀ (pc : Nat) (ls : Array Slot) (v : Int32) (u : S) (H : Heap) (locs : List Loc), decode cc pc = .ok (.ireturn, 1) → post v u → va_P D vwCl (wf u) H → va_D A (wf u) → va_S A H0 H locs → W p l e rm s m args below meth c H locs 0 0 Q (F0 m pc ls [.int v])) →
      ∀ ls : Array Slot, lv_has ls L (lv_args 0 av) → W p l e rm s m args below meth c H0 [] 0 0 Q (F0 m 0 ls [])) : MetI l y cc L rm av D tys w0 wf sz post := by
  refine Met.ofW (cc := cc) (maxL := L) (ret := some .int) hy rfl ?_
  intro p e s m args below meth c s₁ Bd hml hv
  obtain ⟨rfl, hsz, hP, hK, hD0⟩ := hv
  have hx := Bd.exec
  have hb := Bd.bytes
  have hr := Bd.returns
  have hts := atoms_spec (ws := ws_ y cc L (some .int)) Bd.pre
  have hts : ∀ w ∈ lw_all, w.before _ s = true := fun w h => hts w (List.mem_cons_of_mem _ h)
  have hown : s.vm.findClass y.cls = some m.cls := findClass_of_methodNamed Bd.named
  have hlocks := Bd.notSynchronized
  subst hsz
  have hl := lv_entry av (n := L) hsl
  rw [lg_entry_eq]
  generalize (lg_sl av ++ List.replicate (L - (lg_sl av).length) Slot.unset).toArray = ls at hl ⊢
  refine body p e s m _ below meth c (va_A w0 s.heap.size) s.heap _ ⟨hx, hb, hml, hown, hts⟩ hK (fun q h => Or.inr h) hP (hD0.self (sz := s.heap.size)) va_S.rf (fun pc ls v u H locs hd hp hP1 hD1 hS1 => ?_) ls hl
  exact W.iret (v := v) hx hb hr (fun t ht hW => ⟨⟨v, u, rfl, hp, by rw [ht]; exact hP1, va_K.moved hW.alike hK, hD1⟩, hS1.F ht⟩) hS1.2.2 hd
set_option maxHeartbeats 4000000 in
theorem metV_of {S : Type} {l : Launch} {y : MethodName} {cc : ByteArray} {L : Nat} {rm : Room} {av : List Value} {D : va_G} {tys : List (ClassId × FieldType)} {w0 : va_W} {wf : S → va_W} {sz : Nat} {post : S → Prop} (hy : plainName y.cls = true) (hsl : (lg_sl av).length ≤ L)
    (body : ∀ (p : Program) (e : Env) (s : State) (m : MethodId) (args : Array Value) (below : List Frame) (meth : Method) (c : Code) (A : Nat → Prop) (H0 : Heap) (Q : State → Prop), CallFix p m c cc L s args lw_all y.cls → va_K D vwCl tys s → (∀ q : Nat, H0.size ≤ q → A q) → va_P D vwCl w0 H0 → va_D A w0 → va_S A H0 H0 [] →
      (∀ (pc : Nat) (ls : Array Slot) (u : S) (H : Heap) (locs : List Loc), decode cc pc = .ok (.return_, 1) → post u → va_P D vwCl (wf u) H → va_D A (wf u) → va_S A H0 H locs → W p l e rm s m args below meth c H locs 0 0 Q (F0 m pc ls [])) →
      ∀ ls : Array Slot, lv_has ls L (lv_args 0 av) → W p l e rm s m args below meth c H0 [] 0 0 Q (F0 m 0 ls [])) : MetV l y cc L rm av D tys w0 wf sz post := by
  refine Met.ofW (cc := cc) (maxL := L) (ret := none) hy rfl ?_
  intro p e s m args below meth c s₁ Bd hml hv
  obtain ⟨rfl, hsz, hP, hK, hD0⟩ := hv
  have hx := Bd.exec
  have hb := Bd.bytes
  have hr := Bd.returns
  have hts := atoms_spec (ws := ws_ y cc L none) Bd.pre
  have hts : ∀ w ∈ lw_all, w.before _ s = true := fun w h => hts w (List.mem_cons_of_mem _ h)
  have hown : s.vm.findClass y.cls = some m.cls := findClass_of_methodNamed Bd.named
  have hlocks := Bd.notSynchronized
  subst hsz
  have hl := lv_entry av (n := L) hsl
  rw [lg_entry_eq]
  generalize (lg_sl av ++ List.replicate (L - (lg_sl av).length) Slot.unset).toArray = ls at hl ⊢
  refine body p e s m _ below meth c (va_A w0 s.heap.size) s.heap _ ⟨hx, hb, hml, hown, hts⟩ hK (fun q h => Or.inr h) hP (hD0.self (sz := s.heap.size)) va_S.rf (fun pc ls u H locs hd hp hP1 hD1 hS1 => ?_) ls hl
  exact W.vret hx hb hr (fun t ht hW => ⟨⟨u, rfl, hp, by rw [ht]; exact hP1, va_K.moved hW.alike hK, hD1⟩, hS1.F ht⟩) hS1.2.2 hd
theorem cu_Dswap {A : Nat → Prop} {w1 w2 : va_W} (h : va_D A (w1 ++ w2)) : va_D A (w2 ++ w1) := by
  have e1 : ∀ (k : Nat) (q : Nat × va_E), w1[k]? = some q → (w1 ++ w2)[k]? = some q := fun k q hk => by
    rw [List.getElem?_append_left (List.getElem?_eq_some_iff.mp hk).1]; exact hk
  have e2 : ∀ (k : Nat) (q : Nat × va_E), w2[k]? = some q → (w1 ++ w2)[w1.length + k]? = some q := fun k q hk => by
    rw [List.getElem?_append_right (by omega), Nat.add_sub_cancel_left]; exact hk
  refine va_D.app ⟨fun i j x y hi hj hxy => ?_, fun k q hk => h.2 _ q (e2 k q hk)⟩ ⟨fun i j x y hi hj hxy => h.1 i j x y (e1 i x hi) (e1 j y hj) hxy, fun k q hk => h.2 _ q (e1 k q hk)⟩ (fun i j x y hx hy hxy => ?_)
  · have := h.1 _ _ x y (e2 i x hi) (e2 j y hj) hxy
    omega
  · have := h.1 _ _ x y (e2 i x hx) (e1 j y hy) hxy
    have := (List.getElem?_eq_some_iff.mp hy).1
    omega
theorem cu_Dleft {A : Nat → Prop} {w1 w2 : va_W} (h : va_D A (w1 ++ w2)) : va_D A w1 := by
  have e1 : ∀ (k : Nat) (q : Nat × va_E), w1[k]? = some q → (w1 ++ w2)[k]? = some q := fun k q hk => by
    rw [List.getElem?_append_left (List.getElem?_eq_some_iff.mp hk).1]; exact hk
  exact ⟨fun i j x y hi hj hxy => h.1 i j x y (e1 i x hi) (e1 j y hj) hxy, fun k q hk => h.2 _ q (e1 k q hk)⟩
/-- behind a call over the world w0 beside the cells wr -/
theorem cu_join {S : Type} {D : va_G} {A : Nat → Prop} {H0 H H1 : Heap} {locs : List Loc} {w0 wr w1 : va_W} (hA : ∀ q : Nat, H0.size ≤ q → A q) (hPr : va_P D vwCl wr H) (hD : va_D A (w0 ++ wr)) (hS : va_S A H0 H locs) (hk : ∀ q : Nat, q < H.size → ¬ va_A w0 H.size q → H1[q]? = H[q]?) (hD1 : va_D (va_A w0 H.size) w1) : va_P D vwCl wr H1 ∧ va_D A (w1 ++ wr) := by
  have e1 : ∀ (k : Nat) (q : Nat × va_E), w0[k]? = some q → (w0 ++ wr)[k]? = some q := fun k q hk => by
    rw [List.getElem?_append_left (List.getElem?_eq_some_iff.mp hk).1]; exact hk
  have e2 : ∀ (k : Nat) (q : Nat × va_E), wr[k]? = some q → (w0 ++ wr)[w0.length + k]? = some q := fun k q hk => by
    rw [List.getElem?_append_right (by omega), Nat.add_sub_cancel_left]; exact hk
  have hF : ∀ q, va_A w0 H.size q → A q := by
    intro q h
    rcases h with ⟨k, e, h⟩ | h
    · exact hD.2 k (q, e) (e1 k _ h)
    · exact hA q (Nat.le_trans hS.1 h)
  have ap : ∀ (k : Nat) (q : Nat × va_E), wr[k]? = some q → q.1 < H.size ∧ ¬ va_A w0 H.size q.1 := by
    intro k q hq
    have hl := (hPr k q hq).lt
    refine ⟨hl, fun h => ?_⟩
    rcases h with ⟨k2, e, h⟩ | h
    · have := hD.1 _ _ q (q.1, e) (e2 k q hq) (e1 k2 _ h) rfl
      have := (List.getElem?_eq_some_iff.mp h).1
      omega
    · omega
  refine ⟨fun k q hq => (hPr k q hq).kept (hk q.1 (ap k q hq).1 (ap k q hq).2), ?_⟩
  refine va_D.app (hD1.weaken (fun k q _ h => hF q.1 h)) (cu_Dleft (cu_Dswap hD)) (fun i j x y hx hy hxy => (ap j y hy).2 ?_)
  rw [← hxy]
  exact hD1.2 i x hx
section CW
variable {p : Program} {l : Launch} {e : Env} {R : Room} {s : State} {m : MethodId} {args : Array Value} {below : List Frame} {meth : Method} {c : Code} {H : Heap} {locs : List Loc} {cells slots : Nat} {Q : State → Prop}
variable {cc : ByteArray} {pc : Nat} {ls : Array Slot} {rest : List Value}
/-- a call of a method that changes nothing -/
theorem cu_rcall {y : MethodName} {bytes : ByteArray} {L nL n index : Nat} {ty : FieldType} {rm : Room} {B : State → Prop} {own C : String} {b : Addr} {As st0 : List Value} {r : Int32} (S : CallFix p m c cc nL s args lw_all own) (hM : MetR l y bytes L ty rm (.ref b :: As) B r) (cw : CallW R s args own C index y bytes L (some ty) (ws_ y bytes L (some ty)) rm 0 0 n) (hp : PreV s H C b (va_Pc (.ref b :: As) B) As) (hn : As.length = n) (hl : ls.size = nL) (hst : st0 = As.reverse ++ .ref b :: rest) (hW : (rest.map fun v => v.category).sum ≤ 8) (hd : decode cc pc = .ok (.invokevirtual index, 3)) (hc : cells ≤ R.cells) (hs : slots ≤ R.slots) (kk : W p l e R s m args below meth c H locs cells slots Q (F0 m (pc + 3) ls (.int r :: rest))) : W p l e R s m args below meth c H locs cells slots Q (F0 m pc ls st0) :=
  W.callR (W.runV (g := F0 m pc ls st0) S hM cw hp rfl hn hl hst (lv_room hW) hd ⟨hc, hs⟩) kk
theorem cu_preP {C : String} {b : Addr} {As : List Value} (hr : ∃ cellB : Cell, H[b]? = some cellB ∧ cellB.vm.isStatics = false ∧ s.vm.findClass C = some cellB.cls) : PreV s H C b (va_Pc (.ref b :: As) (fun _ => True)) As :=
  ⟨fun _ _ _ _ q => q, hr, fun _ _ _ => ⟨rfl, trivial⟩⟩
theorem cu_preW {C : String} {b : Addr} {As : List Value} {D : va_G} {tys : List (ClassId × FieldType)} {w : va_W} (hr : ∃ cellB : Cell, H[b]? = some cellB ∧ cellB.vm.isStatics = false ∧ s.vm.findClass C = some cellB.cls) (hK : va_K D vwCl tys s) (hP : va_P D vwCl w H) : PreV s H C b (va_Pc (.ref b :: As) (bW D tys w)) As :=
  ⟨fun a U g mk q => ⟨q.1, q.2.1, va_K.moved (u := U) (U := U.calling g mk a) (Vm.Alike.refl U.vm) q.2.2⟩, hr, fun U hU hW => ⟨rfl, by rw [hU]; exact hP, va_K.moved hW.alike hK⟩⟩
theorem cu_preI {C : String} {b : Addr} {As : List Value} {D : va_G} {tys : List (ClassId × FieldType)} {w : va_W} {A : Nat → Prop} (hr : ∃ cellB : Cell, H[b]? = some cellB ∧ cellB.vm.isStatics = false ∧ s.vm.findClass C = some cellB.cls) (hK : va_K D vwCl tys s) (hP : va_P D vwCl w H) (hD : va_D A w) : PreV s H C b (va_Pc (.ref b :: As) (bI D tys w H.size)) As :=
  ⟨fun a U g mk q => ⟨q.1, q.2.1, q.2.2.1, va_K.moved (u := U) (U := U.calling g mk a) (Vm.Alike.refl U.vm) q.2.2.2.1, q.2.2.2.2⟩, hr, fun U hU hW => ⟨rfl, by rw [hU], by rw [hU]; exact hP, va_K.moved hW.alike hK, hD.weaken (fun _ _ _ _ => trivial)⟩⟩
/-- a call of a method that writes its world w0, an int its answer -/
theorem cu_icall {S : Type} {y : MethodName} {bytes : ByteArray} {L nL n index : Nat} {rm : Room} {own C : String} {b : Addr} {As st0 : List Value} {D : va_G} {tys : List (ClassId × FieldType)} {w0 wr : va_W} {wf : S → va_W} {post : Int32 → S → Prop} {A : Nat → Prop} {H0 : Heap} (S0 : CallFix p m c cc nL s args lw_all own) (hM : MetI l y bytes L rm (.ref b :: As) D tys w0 wf H.size post) (cw : CallW R s args own C index y bytes L (some .int) (ws_ y bytes L (some .int)) rm 0 0 n) (hr : ∃ cellB : Cell, H[b]? = some cellB ∧ cellB.vm.isStatics = false ∧ s.vm.findClass C = some cellB.cls) (hA : ∀ q : Nat, H0.size ≤ q → A q) (hK : va_K D vwCl tys s) (hP : va_P D vwCl w0 H) (hPr : va_P D vwCl wr H) (hD : va_D A (w0 ++ wr)) (hS : va_S A H0 H locs) (hn : As.length = n) (hl : ls.size = nL) (hst : st0 = As.reverse ++ .ref b :: rest) (hW : (rest.map fun v => v.category).sum ≤ 8) (hd : decode cc pc = .ok (.invokevirtual index, 3)) (hc : cells ≤ R.cells) (hs : slots ≤ R.slots)
    (kk : ∀ (r : Int32) (u : S) (H1 : Heap) (locs1 : List Loc), post r u → va_P D vwCl (wf u) H1 → va_P D vwCl wr H1 → va_D A (wf u ++ wr) → va_S A H0 H1 locs1 → W p l e R s m args below meth c H1 locs1 cells slots Q (F0 m (pc + 3) ls (.int r :: rest))) : W p l e R s m args below meth c H locs cells slots Q (F0 m pc ls st0) := by
  have hF : ∀ q, va_A w0 H.size q → A q := by
    intro q h
    rcases h with ⟨k, e, h⟩ | h
    · exact (cu_Dleft hD).2 k (q, e) h
    · exact hA q (Nat.le_trans hS.1 h)
  refine va_calli (va_runV (g := F0 m pc ls st0) S0 hM cw (cu_preI hr hK hP (cu_Dleft hD)) rfl hn hl hst (lv_room hW) hd ⟨hc, hs⟩) hS (fun q _ h => hF q h) hF (fun r u t H1 locs1 ht hvm hpost hB hz hk hS1 => ?_)
  obtain ⟨hP1, hK1, hD1⟩ := hB
  rw [ht] at hP1
  obtain ⟨g1, g2⟩ := cu_join (S := S) hA hPr hD hS hk hD1
  exact kk r u H1 locs1 hpost hP1 g1 g2 hS1
theorem cu_vcall {S : Type} {y : MethodName} {bytes : ByteArray} {L nL n index : Nat} {rm : Room} {own C : String} {b : Addr} {As st0 : List Value} {D : va_G} {tys : List (ClassId × FieldType)} {w0 wr : va_W} {wf : S → va_W} {post : S → Prop} {A : Nat → Prop} {H0 : Heap} (S0 : CallFix p m c cc nL s args lw_all own) (hM : MetV l y bytes L rm (.ref b :: As) D tys w0 wf H.size post) (cw : CallW R s args own C index y bytes L none (ws_ y bytes L none) rm 0 0 n) (hr : ∃ cellB : Cell, H[b]? = some cellB ∧ cellB.vm.isStatics = false ∧ s.vm.findClass C = some cellB.cls) (hA : ∀ q : Nat, H0.size ≤ q → A q) (hK : va_K D vwCl tys s) (hP : va_P D vwCl w0 H) (hPr : va_P D vwCl wr H) (hD : va_D A (w0 ++ wr)) (hS : va_S A H0 H locs) (hn : As.length = n) (hl : ls.size = nL) (hst : st0 = As.reverse ++ .ref b :: rest) (hW : (rest.map fun v => v.category).sum ≤ 8) (hd : decode cc pc = .ok (.invokevirtual index, 3)) (hc : cells ≤ R.cells) (hs : slots ≤ R.slots)
    (kk : ∀ (u : S) (H1 : Heap) (locs1 : List Loc), post u → va_P D vwCl (wf u) H1 → va_P D vwCl wr H1 → va_D A (wf u ++ wr) → va_S A H0 H1 locs1 → W p l e R s m args below meth c H1 locs1 cells slots Q (F0 m (pc + 3) ls rest)) : W p l e R s m args below meth c H locs cells slots Q (F0 m pc ls st0) := by
  have hF : ∀ q, va_A w0 H.size q → A q := by
    intro q h
    rcases h with ⟨k, e, h⟩ | h
    · exact (cu_Dleft hD).2 k (q, e) h
    · exact hA q (Nat.le_trans hS.1 h)
  refine va_callv (va_runV (g := F0 m pc ls st0) S0 hM cw (cu_preI hr hK hP (cu_Dleft hD)) rfl hn hl hst (lv_room hW) hd ⟨hc, hs⟩) hS (fun q _ h => hF q h) hF (fun u t H1 locs1 ht hvm hpost hB hz hk hS1 => ?_)
  obtain ⟨hP1, hK1, hD1⟩ := hB
  rw [ht] at hP1
  obtain ⟨g1, g2⟩ := cu_join (S := S) hA hPr hD hS hk hD1
  exact kk u H1 locs1 hpost hP1 g1 g2 hS1
end CW
end
section
/-! rooms, calls and fields of the two classes (printed) -/
def rX1_numberOf : Room := { frames := 0, cells := 0, slots := 0, locals := 0 }
def rX1_change : Room := { frames := 3, cells := 0, slots := 0, locals := 66 }
def rX1_isSet : Room := { frames := 0, cells := 0, slots := 0, locals := 0 }
def rX1_inSquare : Room := { frames := 0, cells := 0, slots := 0, locals := 0 }
def rX1_keep : Room := { frames := 2, cells := 0, slots := 0, locals := 44 }
def rX1_runs : Room := { frames := 0, cells := 0, slots := 0, locals := 0 }
def rX1_cells : Room := { frames := 1, cells := 0, slots := 0, locals := 21 }
def rX1_combine : Room := { frames := 3, cells := 0, slots := 0, locals := 66 }
def rX1_has : Room := { frames := 1, cells := 0, slots := 0, locals := 22 }
def rX1_isCell : Room := { frames := 0, cells := 0, slots := 0, locals := 0 }
def rX1_stretches : Room := { frames := 1, cells := 0, slots := 0, locals := 22 }
def rX1_pieces : Room := { frames := 3, cells := 0, slots := 0, locals := 74 }
def rX1_levelAt : Room := { frames := 2, cells := 0, slots := 0, locals := 50 }
def rX1_whole : Room := { frames := 1, cells := 0, slots := 0, locals := 25 }
def rX1_firstNumber : Room := { frames := 1, cells := 0, slots := 0, locals := 25 }
def rX1_piece : Room := { frames := 3, cells := 0, slots := 0, locals := 74 }
def rX1_number : Room := { frames := 1, cells := 0, slots := 0, locals := 22 }
def rX1_place : Room := { frames := 0, cells := 0, slots := 0, locals := 0 }
def rX1_nth : Room := { frames := 1, cells := 0, slots := 0, locals := 21 }
def rX1_touched : Room := { frames := 2, cells := 0, slots := 0, locals := 50 }
def rX1_some : Room := { frames := 1, cells := 0, slots := 0, locals := 25 }
def rX0_change : Room := { frames := 3, cells := 0, slots := 0, locals := 78 }
def rX0_isSet : Room := { frames := 0, cells := 0, slots := 0, locals := 0 }
def rX0_numberOf : Room := { frames := 0, cells := 0, slots := 0, locals := 0 }
def rX0_make : Room := { frames := 2, cells := 0, slots := 0, locals := 44 }
def rX0_append : Room := { frames := 0, cells := 0, slots := 0, locals := 0 }
def rX0_cells : Room := { frames := 1, cells := 0, slots := 0, locals := 21 }
def rX0_combine : Room := { frames := 3, cells := 0, slots := 0, locals := 78 }
def rX0_has : Room := { frames := 1, cells := 0, slots := 0, locals := 29 }
def rX0_isCell : Room := { frames := 0, cells := 0, slots := 0, locals := 0 }
def rX0_stretches : Room := { frames := 1, cells := 0, slots := 0, locals := 21 }
def rX0_pieces : Room := { frames := 1, cells := 0, slots := 0, locals := 23 }
def rX0_largestAt : Room := { frames := 0, cells := 0, slots := 0, locals := 0 }
def rX0_piece : Room := { frames := 1, cells := 0, slots := 0, locals := 23 }
def rX0_levelOf : Room := { frames := 0, cells := 0, slots := 0, locals := 0 }
def rX0_number : Room := { frames := 1, cells := 0, slots := 0, locals := 29 }
def rX0_place : Room := { frames := 1, cells := 0, slots := 0, locals := 26 }
def rX0_find : Room := { frames := 0, cells := 0, slots := 0, locals := 0 }
def rX0_nth : Room := { frames := 1, cells := 0, slots := 0, locals := 26 }
def rX0_touched : Room := { frames := 1, cells := 0, slots := 0, locals := 21 }
theorem cwX0_append {R : Room} {s : State} {args : Array Value} (hts : ∀ w ∈ lw_all, w.before args s = true) (hR : rX0_append.frames + 1 ≤ R.frames ∧ 8 + (3 + 11) + rX0_append.locals ≤ R.locals) : CallW R s args RX0 RX0 42 yX0_append cX0_append 3 none (ws_ yX0_append cX0_append 3 none) rX0_append 0 0 2 :=
  cwV 2 hts (lw_V q72 q74 qs3 q19 q75) rfl rfl rfl (by decide +kernel) hR
theorem cwX0_cells {R : Room} {s : State} {args : Array Value} (hts : ∀ w ∈ lw_all, w.before args s = true) (hR : rX0_cells.frames + 1 ≤ R.frames ∧ 8 + (4 + 11) + rX0_cells.locals ≤ R.locals) : CallW R s args RX0 RX0 46 yX0_cells cX0_cells 4 (some .int) (ws_ yX0_cells cX0_cells 4 (some .int)) rX0_cells 0 0 1 :=
  cwV 1 hts (lw_V q76 q77 q78 q19 q79) rfl rfl rfl (by decide +kernel) hR
theorem cwX0_find {R : Room} {s : State} {args : Array Value} (hts : ∀ w ∈ lw_all, w.before args s = true) (hR : rX0_find.frames + 1 ≤ R.frames ∧ 8 + (7 + 11) + rX0_find.locals ≤ R.locals) : CallW R s args RX0 RX0 60 yX0_find cX0_find 7 none (ws_ yX0_find cX0_find 7 none) rX0_find 0 0 1 :=
  cwV 1 hts (lw_V q121 q123 qs7 q19 q124) rfl rfl rfl (by decide +kernel) hR
theorem cwX0_isCell {R : Room} {s : State} {args : Array Value} (hts : ∀ w ∈ lw_all, w.before args s = true) (hR : rX0_isCell.frames + 1 ≤ R.frames ∧ 8 + (3 + 11) + rX0_isCell.locals ≤ R.locals) : CallW R s args RX0 RX0 50 yX0_isCell cX0_isCell 3 (some .boolean) (ws_ yX0_isCell cX0_isCell 3 (some .boolean)) rX0_isCell 0 0 2 :=
  cwV 2 hts (lw_V q88 q90 qs4 q19 q91) rfl rfl rfl (by decide +kernel) hR
theorem cwX0_isSet {R : Room} {s : State} {args : Array Value} (hts : ∀ w ∈ lw_all, w.before args s = true) (hR : rX0_isSet.frames + 1 ≤ R.frames ∧ 8 + (2 + 11) + rX0_isSet.locals ≤ R.locals) : CallW R s args RX0 RX0 26 yX0_isSet cX0_isSet 2 (some .boolean) (ws_ yX0_isSet cX0_isSet 2 (some .boolean)) rX0_isSet 0 0 1 :=
  cwV 1 hts (lw_V q60 q62 qs0 q19 q63) rfl rfl rfl (by decide +kernel) hR
theorem cwX0_largestAt {R : Room} {s : State} {args : Array Value} (hts : ∀ w ∈ lw_all, w.before args s = true) (hR : rX0_largestAt.frames + 1 ≤ R.frames ∧ 8 + (4 + 11) + rX0_largestAt.locals ≤ R.locals) : CallW R s args RX0 RX0 54 yX0_largestAt cX0_largestAt 4 (some .int) (ws_ yX0_largestAt cX0_largestAt 4 (some .int)) rX0_largestAt 0 0 2 :=
  cwV 2 hts (lw_V q101 q103 qs5 q19 q104) rfl rfl rfl (by decide +kernel) hR
theorem cwX0_levelOf {R : Room} {s : State} {args : Array Value} (hts : ∀ w ∈ lw_all, w.before args s = true) (hR : rX0_levelOf.frames + 1 ≤ R.frames ∧ 8 + (4 + 11) + rX0_levelOf.locals ≤ R.locals) : CallW R s args RX0 RX0 57 yX0_levelOf cX0_levelOf 4 (some .int) (ws_ yX0_levelOf cX0_levelOf 4 (some .int)) rX0_levelOf 0 0 1 :=
  cwV 1 hts (lw_V q109 q111 qs6 q19 q112) rfl rfl rfl (by decide +kernel) hR
theorem cwX0_make {R : Room} {s : State} {args : Array Value} (hts : ∀ w ∈ lw_all, w.before args s = true) (hR : rX0_make.frames + 1 ≤ R.frames ∧ 8 + (15 + 11) + rX0_make.locals ≤ R.locals) : CallW R s args RX0 RX0 34 yX0_make cX0_make 15 (some .int) (ws_ yX0_make cX0_make 15 (some .int)) rX0_make 0 0 4 :=
  cwV 4 hts (lw_V q68 q70 qs2 q19 q71) rfl rfl rfl (by decide +kernel) hR
theorem cwX0_numberOf {R : Room} {s : State} {args : Array Value} (hts : ∀ w ∈ lw_all, w.before args s = true) (hR : rX0_numberOf.frames + 1 ≤ R.frames ∧ 8 + (10 + 11) + rX0_numberOf.locals ≤ R.locals) : CallW R s args RX0 RX0 30 yX0_numberOf cX0_numberOf 10 (some .int) (ws_ yX0_numberOf cX0_numberOf 10 (some .int)) rX0_numberOf 0 0 2 :=
  cwV 2 hts (lw_V q64 q66 qs1 q19 q67) rfl rfl rfl (by decide +kernel) hR
theorem cwX1_cells {R : Room} {s : State} {args : Array Value} (hts : ∀ w ∈ lw_all, w.before args s = true) (hR : rX1_cells.frames + 1 ≤ R.frames ∧ 8 + (4 + 11) + rX1_cells.locals ≤ R.locals) : CallW R s args RX1 RX1 31 yX1_cells cX1_cells 4 (some .int) (ws_ yX1_cells cX1_cells 4 (some .int)) rX1_cells 0 0 1 :=
  cwV 1 hts (lw_V q178 q179 q180 q20 q181) rfl rfl rfl (by decide +kernel) hR
theorem cwX1_firstNumber {R : Room} {s : State} {args : Array Value} (hts : ∀ w ∈ lw_all, w.before args s = true) (hR : rX1_firstNumber.frames + 1 ≤ R.frames ∧ 8 + (6 + 11) + rX1_firstNumber.locals ≤ R.locals) : CallW R s args RX1 RX1 56 yX1_firstNumber cX1_firstNumber 6 (some .int) (ws_ yX1_firstNumber cX1_firstNumber 6 (some .int)) rX1_firstNumber 0 0 2 :=
  cwV 2 hts (lw_V q211 q213 qs16 q20 q214) rfl rfl rfl (by decide +kernel) hR
theorem cwX1_inSquare {R : Room} {s : State} {args : Array Value} (hts : ∀ w ∈ lw_all, w.before args s = true) (hR : rX1_inSquare.frames + 1 ≤ R.frames ∧ 8 + (6 + 11) + rX1_inSquare.locals ≤ R.locals) : CallW R s args RX1 RX1 39 yX1_inSquare cX1_inSquare 6 (some .boolean) (ws_ yX1_inSquare cX1_inSquare 6 (some .boolean)) rX1_inSquare 0 0 4 :=
  cwV 4 hts (lw_V q166 q168 qs10 q20 q169) rfl rfl rfl (by decide +kernel) hR
theorem cwX1_isCell {R : Room} {s : State} {args : Array Value} (hts : ∀ w ∈ lw_all, w.before args s = true) (hR : rX1_isCell.frames + 1 ≤ R.frames ∧ 8 + (3 + 11) + rX1_isCell.locals ≤ R.locals) : CallW R s args RX1 RX1 46 yX1_isCell cX1_isCell 3 (some .boolean) (ws_ yX1_isCell cX1_isCell 3 (some .boolean)) rX1_isCell 0 0 2 :=
  cwV 2 hts (lw_V q190 q192 qs13 q20 q193) rfl rfl rfl (by decide +kernel) hR
theorem cwX1_isSet {R : Room} {s : State} {args : Array Value} (hts : ∀ w ∈ lw_all, w.before args s = true) (hR : rX1_isSet.frames + 1 ≤ R.frames ∧ 8 + (2 + 11) + rX1_isSet.locals ≤ R.locals) : CallW R s args RX1 RX1 35 yX1_isSet cX1_isSet 2 (some .boolean) (ws_ yX1_isSet cX1_isSet 2 (some .boolean)) rX1_isSet 0 0 1 :=
  cwV 1 hts (lw_V q162 q164 qs9 q20 q165) rfl rfl rfl (by decide +kernel) hR
theorem cwX1_keep {R : Room} {s : State} {args : Array Value} (hts : ∀ w ∈ lw_all, w.before args s = true) (hR : rX1_keep.frames + 1 ≤ R.frames ∧ 8 + (3 + 11) + rX1_keep.locals ≤ R.locals) : CallW R s args RX1 RX1 43 yX1_keep cX1_keep 3 (some .int) (ws_ yX1_keep cX1_keep 3 (some .int)) rX1_keep 0 0 1 :=
  cwV 1 hts (lw_V q170 q172 qs11 q20 q173) rfl rfl rfl (by decide +kernel) hR
theorem cwX1_levelAt {R : Room} {s : State} {args : Array Value} (hts : ∀ w ∈ lw_all, w.before args s = true) (hR : rX1_levelAt.frames + 1 ≤ R.frames ∧ 8 + (5 + 11) + rX1_levelAt.locals ≤ R.locals) : CallW R s args RX1 RX1 53 yX1_levelAt cX1_levelAt 5 (some .int) (ws_ yX1_levelAt cX1_levelAt 5 (some .int)) rX1_levelAt 0 0 2 :=
  cwV 2 hts (lw_V q203 q205 qs14 q20 q206) rfl rfl rfl (by decide +kernel) hR
theorem cwX1_numberOf {R : Room} {s : State} {args : Array Value} (hts : ∀ w ∈ lw_all, w.before args s = true) (hR : rX1_numberOf.frames + 1 ≤ R.frames ∧ 8 + (12 + 11) + rX1_numberOf.locals ≤ R.locals) : CallW R s args RX1 RX1 23 yX1_numberOf cX1_numberOf 12 (some .int) (ws_ yX1_numberOf cX1_numberOf 12 (some .int)) rX1_numberOf 0 0 2 :=
  cwV 2 hts (lw_V q139 q141 qs8 q20 q142) rfl rfl rfl (by decide +kernel) hR
theorem cwX1_runs {R : Room} {s : State} {args : Array Value} (hts : ∀ w ∈ lw_all, w.before args s = true) (hR : rX1_runs.frames + 1 ≤ R.frames ∧ 8 + (3 + 11) + rX1_runs.locals ≤ R.locals) : CallW R s args RX1 RX1 27 yX1_runs cX1_runs 3 (some .int) (ws_ yX1_runs cX1_runs 3 (some .int)) rX1_runs 0 0 0 :=
  cwV 0 hts (lw_V q174 q176 qs12 q20 q177) rfl rfl rfl (by decide +kernel) hR
theorem cwX1_some {R : Room} {s : State} {args : Array Value} (hts : ∀ w ∈ lw_all, w.before args s = true) (hR : rX1_some.frames + 1 ≤ R.frames ∧ 8 + (6 + 11) + rX1_some.locals ≤ R.locals) : CallW R s args RX1 RX1 59 yX1_some cX1_some 6 (some .boolean) (ws_ yX1_some cX1_some 6 (some .boolean)) rX1_some 0 0 4 :=
  cwV 4 hts (lw_V q235 q237 qs17 q20 q238) rfl rfl rfl (by decide +kernel) hR
theorem cwX1_whole {R : Room} {s : State} {args : Array Value} (hts : ∀ w ∈ lw_all, w.before args s = true) (hR : rX1_whole.frames + 1 ≤ R.frames ∧ 8 + (6 + 11) + rX1_whole.locals ≤ R.locals) : CallW R s args RX1 RX1 50 yX1_whole cX1_whole 6 (some .boolean) (ws_ yX1_whole cX1_whole 6 (some .boolean)) rX1_whole 0 0 4 :=
  cwV 4 hts (lw_V q207 q209 qs15 q20 q210) rfl rfl rfl (by decide +kernel) hR
section GP
variable {p : Program} {l : Launch} {e : Env} {R : Room} {s : State} {m : MethodId} {args : Array Value} {below : List Frame} {meth : Method} {c : Code} {H : Heap} {locs : List Loc} {cells slots : Nat} {Q : State → Prop}
variable {cc : ByteArray} {pc nL : Nat} {ls : Array Slot} {rest : List Value} {D : va_G} {tys : List (ClassId × FieldType)} {A : Nat → Prop} {H0 : Heap}
variable {h0 a1 a2 a3 a4 a5 : Nat} {dB dS : ClassId} {C F L MF ML : Nat → Nat} {mc cx cy : Nat}
theorem gX_0 (S : CallFix p m c cc nL s args lw_all RX0) (hK : va_K D vwCl tys s) (hP : va_P D vwCl (wX h0 a1 a2 a3 a4 a5 dB dS C F L MF ML mc cx cy) H) (hd : decode cc pc = .ok (.getfield 7, 3)) (kk : W p l e R s m args below meth c H locs cells slots Q (F0 m (pc + 3) ls (.ref a1 :: rest))) : W p l e R s m args below meth c H locs cells slots Q (F0 m pc ls (.ref h0 :: rest)) :=
  va_get (ci := 0) (v := .ref a1) (C := RX0) (T := TX0) (N := 8) S.1 S.2.1 S.2.2.2.2 in_X0 S.2.2.2.1 hK hP 0 rfl rfl 0 (by decide) (S.2.2.2.2 _ q29) (fun _ h9 => h9) rfl hd kk
theorem gX_1 (S : CallFix p m c cc nL s args lw_all RX0) (hK : va_K D vwCl tys s) (hP : va_P D vwCl (wX h0 a1 a2 a3 a4 a5 dB dS C F L MF ML mc cx cy) H) (hd : decode cc pc = .ok (.getfield 13, 3)) (kk : W p l e R s m args below meth c H locs cells slots Q (F0 m (pc + 3) ls (.ref a2 :: rest))) : W p l e R s m args below meth c H locs cells slots Q (F0 m pc ls (.ref h0 :: rest)) :=
  va_get (ci := 0) (v := .ref a2) (C := RX0) (T := TX0) (N := 8) S.1 S.2.1 S.2.2.2.2 in_X0 S.2.2.2.1 hK hP 0 rfl rfl 1 (by decide) (S.2.2.2.2 _ q30) (fun _ h9 => h9) rfl hd kk
theorem gX_2 (S : CallFix p m c cc nL s args lw_all RX0) (hK : va_K D vwCl tys s) (hP : va_P D vwCl (wX h0 a1 a2 a3 a4 a5 dB dS C F L MF ML mc cx cy) H) (hd : decode cc pc = .ok (.getfield 17, 3)) (kk : W p l e R s m args below meth c H locs cells slots Q (F0 m (pc + 3) ls (.ref a3 :: rest))) : W p l e R s m args below meth c H locs cells slots Q (F0 m pc ls (.ref h0 :: rest)) :=
  va_get (ci := 0) (v := .ref a3) (C := RX0) (T := TX0) (N := 8) S.1 S.2.1 S.2.2.2.2 in_X0 S.2.2.2.1 hK hP 0 rfl rfl 2 (by decide) (S.2.2.2.2 _ q31) (fun _ h9 => h9) rfl hd kk
theorem gX_3 (S : CallFix p m c cc nL s args lw_all RX0) (hK : va_K D vwCl tys s) (hP : va_P D vwCl (wX h0 a1 a2 a3 a4 a5 dB dS C F L MF ML mc cx cy) H) (hd : decode cc pc = .ok (.getfield 38, 3)) (kk : W p l e R s m args below meth c H locs cells slots Q (F0 m (pc + 3) ls (.int (nI mc) :: rest))) : W p l e R s m args below meth c H locs cells slots Q (F0 m pc ls (.ref h0 :: rest)) :=
  va_get (ci := 0) (v := .int (nI mc)) (C := RX0) (T := TX0) (N := 8) S.1 S.2.1 S.2.2.2.2 in_X0 S.2.2.2.1 hK hP 0 rfl rfl 3 (by decide) (S.2.2.2.2 _ q32) (fun _ h9 => h9) rfl hd kk
theorem gX_4 (S : CallFix p m c cc nL s args lw_all RX0) (hK : va_K D vwCl tys s) (hP : va_P D vwCl (wX h0 a1 a2 a3 a4 a5 dB dS C F L MF ML mc cx cy) H) (hd : decode cc pc = .ok (.getfield 20, 3)) (kk : W p l e R s m args below meth c H locs cells slots Q (F0 m (pc + 3) ls (.ref a4 :: rest))) : W p l e R s m args below meth c H locs cells slots Q (F0 m pc ls (.ref h0 :: rest)) :=
  va_get (ci := 0) (v := .ref a4) (C := RX0) (T := TX0) (N := 8) S.1 S.2.1 S.2.2.2.2 in_X0 S.2.2.2.1 hK hP 0 rfl rfl 4 (by decide) (S.2.2.2.2 _ q33) (fun _ h9 => h9) rfl hd kk
theorem gX_5 (S : CallFix p m c cc nL s args lw_all RX0) (hK : va_K D vwCl tys s) (hP : va_P D vwCl (wX h0 a1 a2 a3 a4 a5 dB dS C F L MF ML mc cx cy) H) (hd : decode cc pc = .ok (.getfield 23, 3)) (kk : W p l e R s m args below meth c H locs cells slots Q (F0 m (pc + 3) ls (.ref a5 :: rest))) : W p l e R s m args below meth c H locs cells slots Q (F0 m pc ls (.ref h0 :: rest)) :=
  va_get (ci := 0) (v := .ref a5) (C := RX0) (T := TX0) (N := 8) S.1 S.2.1 S.2.2.2.2 in_X0 S.2.2.2.1 hK hP 0 rfl rfl 5 (by decide) (S.2.2.2.2 _ q34) (fun _ h9 => h9) rfl hd kk
theorem gX_6 (S : CallFix p m c cc nL s args lw_all RX0) (hK : va_K D vwCl tys s) (hP : va_P D vwCl (wX h0 a1 a2 a3 a4 a5 dB dS C F L MF ML mc cx cy) H) (hd : decode cc pc = .ok (.getfield 64, 3)) (kk : W p l e R s m args below meth c H locs cells slots Q (F0 m (pc + 3) ls (.int (nI cx) :: rest))) : W p l e R s m args below meth c H locs cells slots Q (F0 m pc ls (.ref h0 :: rest)) :=
  va_get (ci := 0) (v := .int (nI cx)) (C := RX0) (T := TX0) (N := 8) S.1 S.2.1 S.2.2.2.2 in_X0 S.2.2.2.1 hK hP 0 rfl rfl 6 (by decide) (S.2.2.2.2 _ q35) (fun _ h9 => h9) rfl hd kk
theorem gX_7 (S : CallFix p m c cc nL s args lw_all RX0) (hK : va_K D vwCl tys s) (hP : va_P D vwCl (wX h0 a1 a2 a3 a4 a5 dB dS C F L MF ML mc cx cy) H) (hd : decode cc pc = .ok (.getfield 67, 3)) (kk : W p l e R s m args below meth c H locs cells slots Q (F0 m (pc + 3) ls (.int (nI cy) :: rest))) : W p l e R s m args below meth c H locs cells slots Q (F0 m pc ls (.ref h0 :: rest)) :=
  va_get (ci := 0) (v := .int (nI cy)) (C := RX0) (T := TX0) (N := 8) S.1 S.2.1 S.2.2.2.2 in_X0 S.2.2.2.1 hK hP 0 rfl rfl 7 (by decide) (S.2.2.2.2 _ q36) (fun _ h9 => h9) rfl hd kk
theorem pX_3 {v : Nat} (S : CallFix p m c cc nL s args lw_all RX0) (hK : va_K D vwCl tys s) (hP : va_P D vwCl (wX h0 a1 a2 a3 a4 a5 dB dS C F L MF ML mc cx cy) H) (hD : va_D A (wX h0 a1 a2 a3 a4 a5 dB dS C F L MF ML mc cx cy)) (hS : va_S A H0 H locs) (hd : decode cc pc = .ok (.putfield 38, 3)) (kk : ∀ (H1 : Heap) (locs1 : List Loc), va_P D vwCl (wX h0 a1 a2 a3 a4 a5 dB dS C F L MF ML v cx cy) H1 → va_D A (wX h0 a1 a2 a3 a4 a5 dB dS C F L MF ML v cx cy) → va_S A H0 H1 locs1 → W p l e R s m args below meth c H1 locs1 cells slots Q (F0 m (pc + 3) ls rest)) : W p l e R s m args below meth c H locs cells slots Q (F0 m pc ls (.int (nI v) :: .ref h0 :: rest)) :=
  va_put (ci := 0) (v := .int (nI v)) (ty := .int) (C := RX0) (T := TX0) (N := 8) S.1 S.2.1 S.2.2.2.2 in_X0 tyX0 tyX0_ok nmX0 S.2.2.2.1 hK hP hD hS 0 rfl rfl 3 (by decide) (S.2.2.2.2 _ q32) (fun _ h9 => h9) rfl (by decide +kernel) rfl rfl (Nat.le_of_ble_eq_true rfl) hd kk
theorem pX_6 {v : Nat} (S : CallFix p m c cc nL s args lw_all RX0) (hK : va_K D vwCl tys s) (hP : va_P D vwCl (wX h0 a1 a2 a3 a4 a5 dB dS C F L MF ML mc cx cy) H) (hD : va_D A (wX h0 a1 a2 a3 a4 a5 dB dS C F L MF ML mc cx cy)) (hS : va_S A H0 H locs) (hd : decode cc pc = .ok (.putfield 64, 3)) (kk : ∀ (H1 : Heap) (locs1 : List Loc), va_P D vwCl (wX h0 a1 a2 a3 a4 a5 dB dS C F L MF ML mc v cy) H1 → va_D A (wX h0 a1 a2 a3 a4 a5 dB dS C F L MF ML mc v cy) → va_S A H0 H1 locs1 → W p l e R s m args below meth c H1 locs1 cells slots Q (F0 m (pc + 3) ls rest)) : W p l e R s m args below meth c H locs cells slots Q (F0 m pc ls (.int (nI v) :: .ref h0 :: rest)) :=
  va_put (ci := 0) (v := .int (nI v)) (ty := .int) (C := RX0) (T := TX0) (N := 8) S.1 S.2.1 S.2.2.2.2 in_X0 tyX0 tyX0_ok nmX0 S.2.2.2.1 hK hP hD hS 0 rfl rfl 6 (by decide) (S.2.2.2.2 _ q35) (fun _ h9 => h9) rfl (by decide +kernel) rfl rfl (Nat.le_of_ble_eq_true rfl) hd kk
theorem pX_7 {v : Nat} (S : CallFix p m c cc nL s args lw_all RX0) (hK : va_K D vwCl tys s) (hP : va_P D vwCl (wX h0 a1 a2 a3 a4 a5 dB dS C F L MF ML mc cx cy) H) (hD : va_D A (wX h0 a1 a2 a3 a4 a5 dB dS C F L MF ML mc cx cy)) (hS : va_S A H0 H locs) (hd : decode cc pc = .ok (.putfield 67, 3)) (kk : ∀ (H1 : Heap) (locs1 : List Loc), va_P D vwCl (wX h0 a1 a2 a3 a4 a5 dB dS C F L MF ML mc cx v) H1 → va_D A (wX h0 a1 a2 a3 a4 a5 dB dS C F L MF ML mc cx v) → va_S A H0 H1 locs1 → W p l e R s m args below meth c H1 locs1 cells slots Q (F0 m (pc + 3) ls rest)) : W p l e R s m args below meth c H locs cells slots Q (F0 m pc ls (.int (nI v) :: .ref h0 :: rest)) :=
  va_put (ci := 0) (v := .int (nI v)) (ty := .int) (C := RX0) (T := TX0) (N := 8) S.1 S.2.1 S.2.2.2.2 in_X0 tyX0 tyX0_ok nmX0 S.2.2.2.1 hK hP hD hS 0 rfl rfl 7 (by decide) (S.2.2.2.2 _ q36) (fun _ h9 => h9) rfl (by decide +kernel) rfl rfl (Nat.le_of_ble_eq_true rfl) hd kk
variable {k0 b1 b2 b3 b4 : Nat} {dN dZ : ClassId} {Nm Pl : Nat → Nat} {Mk Th : Nat → Bool}
theorem gM_0 (S : CallFix p m c cc nL s args lw_all RX1) (hK : va_K D vwCl tys s) (hP : va_P D vwCl (wM k0 b1 b2 b3 b4 dN dZ Nm Pl Mk Th) H) (hd : decode cc pc = .ok (.getfield 7, 3)) (kk : W p l e R s m args below meth c H locs cells slots Q (F0 m (pc + 3) ls (.ref b1 :: rest))) : W p l e R s m args below meth c H locs cells slots Q (F0 m pc ls (.ref k0 :: rest)) :=
  va_get (ci := 1) (v := .ref b1) (C := RX1) (T := TX1) (N := 4) S.1 S.2.1 S.2.2.2.2 in_X1 S.2.2.2.1 hK hP 0 rfl rfl 0 (by decide) (S.2.2.2.2 _ q143) (fun _ h9 => h9) rfl hd kk
theorem gM_1 (S : CallFix p m c cc nL s args lw_all RX1) (hK : va_K D vwCl tys s) (hP : va_P D vwCl (wM k0 b1 b2 b3 b4 dN dZ Nm Pl Mk Th) H) (hd : decode cc pc = .ok (.getfield 13, 3)) (kk : W p l e R s m args below meth c H locs cells slots Q (F0 m (pc + 3) ls (.ref b2 :: rest))) : W p l e R s m args below meth c H locs cells slots Q (F0 m pc ls (.ref k0 :: rest)) :=
  va_get (ci := 1) (v := .ref b2) (C := RX1) (T := TX1) (N := 4) S.1 S.2.1 S.2.2.2.2 in_X1 S.2.2.2.1 hK hP 0 rfl rfl 1 (by decide) (S.2.2.2.2 _ q144) (fun _ h9 => h9) rfl hd kk
theorem gM_2 (S : CallFix p m c cc nL s args lw_all RX1) (hK : va_K D vwCl tys s) (hP : va_P D vwCl (wM k0 b1 b2 b3 b4 dN dZ Nm Pl Mk Th) H) (hd : decode cc pc = .ok (.getfield 16, 3)) (kk : W p l e R s m args below meth c H locs cells slots Q (F0 m (pc + 3) ls (.ref b3 :: rest))) : W p l e R s m args below meth c H locs cells slots Q (F0 m pc ls (.ref k0 :: rest)) :=
  va_get (ci := 1) (v := .ref b3) (C := RX1) (T := TX1) (N := 4) S.1 S.2.1 S.2.2.2.2 in_X1 S.2.2.2.1 hK hP 0 rfl rfl 2 (by decide) (S.2.2.2.2 _ q145) (fun _ h9 => h9) rfl hd kk
theorem gM_3 (S : CallFix p m c cc nL s args lw_all RX1) (hK : va_K D vwCl tys s) (hP : va_P D vwCl (wM k0 b1 b2 b3 b4 dN dZ Nm Pl Mk Th) H) (hd : decode cc pc = .ok (.getfield 20, 3)) (kk : W p l e R s m args below meth c H locs cells slots Q (F0 m (pc + 3) ls (.ref b4 :: rest))) : W p l e R s m args below meth c H locs cells slots Q (F0 m pc ls (.ref k0 :: rest)) :=
  va_get (ci := 1) (v := .ref b4) (C := RX1) (T := TX1) (N := 4) S.1 S.2.1 S.2.2.2.2 in_X1 S.2.2.2.1 hK hP 0 rfl rfl 3 (by decide) (S.2.2.2.2 _ q146) (fun _ h9 => h9) rfl hd kk
end GP
end
section
/-! plain law, part 1: sets of curve numbers as stretches; counts -/
theorem cu_upl {F : Nat → Nat} {B i v : Nat} (h : ∀ q, F q < B) (hv : v < B) : ∀ q, va_up F i v q < B := by
  intro q
  unfold va_up
  split
  · exact hv
  · exact h q
theorem cu_ct_same {P : Nat → Bool} {a b : Nat} (hab : a ≤ b) (h : ∀ n, a ≤ n → n < b → P n = false) : fb_ct P b = fb_ct P a := by
  obtain ⟨d, rfl⟩ : ∃ d, b = a + d := ⟨b - a, by omega⟩
  rw [fb_ct_split, fb_ct_zero.mpr (fun k hk => h (a + k) (by omega) (by omega))]
  rfl
theorem cu_ct_full {P : Nat → Bool} {a b : Nat} (hab : a ≤ b) (h : ∀ n, a ≤ n → n < b → P n = true) : fb_ct P b = fb_ct P a + (b - a) := by
  obtain ⟨d, rfl⟩ : ∃ d, b = a + d := ⟨b - a, by omega⟩
  rw [fb_ct_split, fb_ct_all.mpr (fun k hk => h (a + k) (by omega) (by omega))]
  omega
theorem cu_ct_yes {P : Nat → Bool} {n : Nat} (h : P n = true) : fb_ct P (n + 1) = fb_ct P n + 1 := by rw [fb_ct_succ, if_pos h]
theorem cu_ct_no {P : Nat → Bool} {n : Nat} (h : P n = false) : fb_ct P (n + 1) = fb_ct P n := by rw [fb_ct_succ, h]; rfl
theorem cu_ct_2 {P Q T : Nat → Bool} : ∀ {n : Nat}, (∀ k, k < n → P k = true → Q k = true ∨ T k = true) → fb_ct P n ≤ fb_ct Q n + fb_ct T n
  | 0, _ => Nat.zero_le _
  | n + 1, h => by
    have a := cu_ct_2 (n := n) (fun k hk => h k (by omega))
    have b := h n (by omega)
    rw [fb_ct_succ, fb_ct_succ, fb_ct_succ]
    cases hp : P n
    · simp; omega
    · rcases b hp with q | q
      · rw [q]; simp; omega
      · rw [q]; simp; omega
/-- a set of curve numbers as k ascending stretches, never two that touch -/
def cu_Iv (k : Nat) (F L : Nat → Nat) (S : Nat → Bool) : Prop :=
  (∀ j, j < k → F j ≤ L j ∧ L j < 256) ∧ (∀ j, j + 1 < k → L j + 1 < F (j + 1)) ∧ ∀ n, S n = true ↔ ∃ j, j < k ∧ F j ≤ n ∧ n ≤ L j
/-- where the stretch j may begin at the earliest -/
def cu_lo (L : Nat → Nat) : Nat → Nat
  | 0 => 0
  | j + 1 => L j + 1
theorem cu_Iv.sep {k : Nat} {F L : Nat → Nat} {S : Nat → Bool} (h : cu_Iv k F L S) : ∀ j i, i < j → j < k → L i + 1 < F j
  | 0, i, h1, _ => absurd h1 (Nat.not_lt_zero _)
  | j + 1, i, h1, h2 => by
    have a := h.2.1 j h2
    rcases Nat.lt_or_ge i j with q | q
    · have b := cu_Iv.sep h j i q (by omega)
      have c := (h.1 j (by omega)).1
      omega
    · have e : i = j := by omega
      subst e
      exact a
theorem cu_Iv.inn {k : Nat} {F L : Nat → Nat} {S : Nat → Bool} (h : cu_Iv k F L S) {j n : Nat} (hj : j < k) (h1 : F j ≤ n) (h2 : n ≤ L j) : S n = true := (h.2.2 n).mpr ⟨j, hj, h1, h2⟩
theorem cu_Iv.gap {k : Nat} {F L : Nat → Nat} {S : Nat → Bool} (h : cu_Iv k F L S) {j n : Nat} (hj : j < k) (h1 : cu_lo L j ≤ n) (h2 : n < F j) : S n = false := by
  cases hS : S n with
  | false => rfl
  | true =>
    exfalso
    obtain ⟨t, ht, a, b⟩ := (h.2.2 n).mp hS
    rcases Nat.lt_trichotomy t j with q | q | q
    · cases j with
      | zero => omega
      | succ j =>
        have hlo : L j + 1 ≤ n := h1
        rcases Nat.lt_or_ge t j with r | r
        · have := h.sep j t r (by omega)
          have := (h.1 j (by omega)).1
          omega
        · have e : t = j := by omega
          subst e
          omega
    · subst q
      omega
    · have := h.sep t j q ht
      have := (h.1 j hj).1
      omega
theorem cu_Iv.fin {k : Nat} {F L : Nat → Nat} {S : Nat → Bool} (h : cu_Iv k F L S) {n : Nat} (h1 : cu_lo L k ≤ n) : S n = false := by
  cases hS : S n with
  | false => rfl
  | true =>
    exfalso
    obtain ⟨t, ht, a, b⟩ := (h.2.2 n).mp hS
    cases k with
    | zero => omega
    | succ k =>
      have hlo : L k + 1 ≤ n := h1
      rcases Nat.lt_or_ge t k with r | r
      · have := h.sep k t r (by omega)
        have := (h.1 k (by omega)).1
        omega
      · have e : t = k := by omega
        subst e
        omega
theorem cu_Iv.lo_le {k : Nat} {F L : Nat → Nat} {S : Nat → Bool} (h : cu_Iv k F L S) {j : Nat} (hj : j < k) : cu_lo L j ≤ F j ∧ (0 < j → cu_lo L j < F j) := by
  cases j with
  | zero => exact ⟨Nat.zero_le _, fun q => absurd q (Nat.lt_irrefl _)⟩
  | succ j =>
    have a : L j + 1 < F (j + 1) := h.2.1 j hj
    exact ⟨Nat.le_of_lt a, fun _ => a⟩
theorem cu_Iv.lo_256 {k : Nat} {F L : Nat → Nat} {S : Nat → Bool} (h : cu_Iv k F L S) {j : Nat} (hj : j ≤ k) : cu_lo L j ≤ 256 := by
  cases j with
  | zero => exact Nat.zero_le _
  | succ j =>
    have a := (h.1 j (by omega)).2
    show L j + 1 ≤ 256
    omega
theorem cu_Iv.big {k : Nat} {F L : Nat → Nat} {S : Nat → Bool} (h : cu_Iv k F L S) {n : Nat} (hn : 256 ≤ n) : S n = false := h.fin (Nat.le_trans (h.lo_256 (Nat.le_refl _)) hn)
theorem cu_Iv.next {k : Nat} {F L : Nat → Nat} {S : Nat → Bool} (h : cu_Iv k F L S) {j : Nat} (hj : j < k) : S (L j + 1) = false := by
  rcases Nat.lt_or_ge (j + 1) k with q | q
  · exact h.gap (j := j + 1) q (Nat.le_refl _) (h.2.1 j q)
  · have e : k = j + 1 := by omega
    subst e
    exact h.fin (Nat.le_refl _)
theorem cu_Iv.cells_step {k : Nat} {F L : Nat → Nat} {S : Nat → Bool} (h : cu_Iv k F L S) {j : Nat} (hj : j < k) : fb_ct S (cu_lo L (j + 1)) = fb_ct S (cu_lo L j) + (L j - F j + 1) := by
  have a := (h.1 j hj).1
  have b : fb_ct S (F j) = fb_ct S (cu_lo L j) := cu_ct_same (h.lo_le hj).1 (fun n h1 h2 => h.gap hj h1 h2)
  have c : fb_ct S (L j + 1) = fb_ct S (F j) + (L j + 1 - F j) := cu_ct_full (by omega) (fun n h1 h2 => h.inn hj h1 (by omega))
  show fb_ct S (L j + 1) = _
  omega
theorem cu_Iv.cells_end {k : Nat} {F L : Nat → Nat} {S : Nat → Bool} (h : cu_Iv k F L S) : fb_ct S (cu_lo L k) = fb_ct S 256 :=
  (cu_ct_same (h.lo_256 (Nat.le_refl _)) (fun _ h1 _ => h.fin h1)).symm
/-- the first number of a run -/
def cu_st (S : Nat → Bool) (n : Nat) : Bool := S n && (n == 0 || !S (n - 1))
def cu_runs (S : Nat → Bool) : Nat := fb_ct (cu_st S) 256
theorem cu_st_no {S : Nat → Bool} {n : Nat} (h : S n = false) : cu_st S n = false := by simp [cu_st, h]
theorem cu_Iv.runs_to {k : Nat} {F L : Nat → Nat} {S : Nat → Bool} (h : cu_Iv k F L S) : ∀ j, j ≤ k → fb_ct (cu_st S) (cu_lo L j) = j
  | 0, _ => rfl
  | j + 1, hj => by
    have ih := cu_Iv.runs_to h j (by omega)
    have hj' : j < k := by omega
    have a := (h.1 j hj').1
    have lo := h.lo_le hj'
    have b : fb_ct (cu_st S) (F j) = fb_ct (cu_st S) (cu_lo L j) := cu_ct_same lo.1 (fun n h1 h2 => cu_st_no (h.gap hj' h1 h2))
    have c : cu_st S (F j) = true := by
      unfold cu_st
      rw [h.inn hj' (Nat.le_refl _) a]
      rcases Nat.eq_zero_or_pos (F j) with q | q
      · simp [q]
      · have g : S (F j - 1) = false := by
          refine h.gap hj' ?_ (by omega)
          rcases Nat.eq_zero_or_pos j with r | r
          · subst r
            exact Nat.zero_le _
          · have := lo.2 r
            omega
        simp [g]
    have d : fb_ct (cu_st S) (L j + 1) = fb_ct (cu_st S) (F j + 1) := cu_ct_same (by omega) (fun n h1 h2 => by
      unfold cu_st
      rw [h.inn hj' (n := n - 1) (by omega) (by omega)]
      have : (n == 0) = false := by simp; omega
      simp [this])
    show fb_ct (cu_st S) (L j + 1) = j + 1
    rw [d, cu_ct_yes c, b, ih]
theorem cu_Iv.runs {k : Nat} {F L : Nat → Nat} {S : Nat → Bool} (h : cu_Iv k F L S) : cu_runs S = k := by
  rw [← h.runs_to k (Nat.le_refl _)]
  exact cu_ct_same (h.lo_256 (Nat.le_refl _)) (fun n h1 _ => cu_st_no (h.fin h1))
theorem cu_runs_le (S : Nat → Bool) : cu_runs S ≤ 256 := fb_ct_le _ _
/-- the ends of runs are as many -/
def cu_en (S : Nat → Bool) (n : Nat) : Bool := !S n && (n != 0 && S (n - 1))
theorem cu_Iv.ends_to {k : Nat} {F L : Nat → Nat} {S : Nat → Bool} (h : cu_Iv k F L S) : ∀ j, j ≤ k → fb_ct (cu_en S) (cu_lo L j) ≤ j
  | 0, _ => Nat.le_refl _
  | j + 1, hj => by
    have ih := cu_Iv.ends_to h j (by omega)
    have hj' : j < k := by omega
    have a := (h.1 j hj').1
    have lo := h.lo_le hj'
    have d : fb_ct (cu_en S) (L j + 1) = fb_ct (cu_en S) (F j) := cu_ct_same (by omega) (fun n h1 h2 => by
      unfold cu_en
      rw [h.inn hj' h1 (by omega)]
      rfl)
    have b : fb_ct (cu_en S) (F j) ≤ fb_ct (cu_en S) (cu_lo L j) + 1 := by
      rcases Nat.lt_or_ge (cu_lo L j) (F j) with q | q
      · have b1 : fb_ct (cu_en S) (F j) = fb_ct (cu_en S) (cu_lo L j + 1) := cu_ct_same q (fun n h1 h2 => by
          unfold cu_en
          rw [h.gap hj' (n := n - 1) (by omega) (by omega)]
          simp)
        rw [b1, fb_ct_succ]
        split <;> omega
      · have e : cu_lo L j = F j := by omega
        rw [e]
        omega
    show fb_ct (cu_en S) (L j + 1) ≤ j + 1
    omega
theorem cu_Iv.ends {k : Nat} {F L : Nat → Nat} {S : Nat → Bool} (h : cu_Iv k F L S) : fb_ct (cu_en S) 256 ≤ k + 1 := by
  have a := h.ends_to k (Nat.le_refl _)
  rcases Nat.lt_or_ge (cu_lo L k) 256 with q | q
  · have b1 : fb_ct (cu_en S) 256 = fb_ct (cu_en S) (cu_lo L k + 1) := cu_ct_same q (fun n h1 h2 => by
      unfold cu_en
      rw [h.fin (n := n - 1) (by omega)]
      simp)
    rw [b1, fb_ct_succ]
    split <;> omega
  · have e : cu_lo L k = 256 := by have := h.lo_256 (Nat.le_refl k); omega
    rw [← e]
    omega
def cu_op (how : Nat) (A B : Nat → Bool) (n : Nat) : Bool := if how = 0 then A n && B n else if how = 1 then A n || B n else A n && !B n
/-- a set made of two has at most as many runs as both together, and one -/
theorem cu_op_runs {kA kB : Nat} {FA LA FB LB : Nat → Nat} {A B : Nat → Bool} (hA : cu_Iv kA FA LA A) (hB : cu_Iv kB FB LB B) (how at_ : Nat) (hat : at_ ≤ 256) : fb_ct (cu_st (cu_op how A B)) at_ ≤ kA + kB + 1 := by
  have mA : fb_ct (cu_st A) at_ ≤ kA := by rw [← hA.runs]; exact fb_ct_mono _ hat
  have mB : fb_ct (cu_st B) at_ ≤ kB := by rw [← hB.runs]; exact fb_ct_mono _ hat
  have mE : fb_ct (cu_en B) at_ ≤ kB + 1 := Nat.le_trans (fb_ct_mono _ hat) hB.ends
  by_cases h2 : how = 0 ∨ how = 1
  · have := cu_ct_2 (P := cu_st (cu_op how A B)) (Q := cu_st A) (T := cu_st B) (n := at_) (fun n _ h => by
      rcases h2 with e | e <;> subst e <;> simp [cu_st, cu_op] at h ⊢ <;> cases hA1 : A n <;> cases hB1 : B n <;> cases hA2 : A (n - 1) <;> cases hB2 : B (n - 1) <;> simp_all)
    omega
  · have := cu_ct_2 (P := cu_st (cu_op how A B)) (Q := cu_st A) (T := cu_en B) (n := at_) (fun n _ h => by
      have e0 : ¬ how = 0 := fun e => h2 (Or.inl e)
      have e1 : ¬ how = 1 := fun e => h2 (Or.inr e)
      simp [cu_st, cu_en, cu_op, e0, e1] at h ⊢
      cases hA1 : A n <;> cases hB1 : B n <;> cases hA2 : A (n - 1) <;> cases hB2 : B (n - 1) <;> by_cases hn : n = 0 <;> simp_all)
    omega
end
section
/-! plain law, part 2: the step of make, append; has; selection; squares as blocks of the curve -/
theorem cu_Iv.cong {k : Nat} {F L : Nat → Nat} {S S2 : Nat → Bool} (h : cu_Iv k F L S) (e : ∀ n, S2 n = S n) : cu_Iv k F L S2 := ⟨h.1, h.2.1, fun n => by rw [e n]; exact h.2.2 n⟩
theorem cu_Iv.congF {k : Nat} {F L F2 L2 : Nat → Nat} {S : Nat → Bool} (h : cu_Iv k F L S) (e1 : ∀ j, j < k → F2 j = F j) (e2 : ∀ j, j < k → L2 j = L j) : cu_Iv k F2 L2 S := by
  refine ⟨fun j hj => ?_, fun j hj => ?_, fun n => ?_⟩
  · rw [e1 j hj, e2 j hj]; exact h.1 j hj
  · rw [e1 (j + 1) hj, e2 j (by omega)]; exact h.2.1 j hj
  · rw [h.2.2 n]
    constructor
    · rintro ⟨j, hj, a, b⟩
      exact ⟨j, hj, by rw [e1 j hj]; exact a, by rw [e2 j hj]; exact b⟩
    · rintro ⟨j, hj, a, b⟩
      exact ⟨j, hj, by rw [← e1 j hj]; exact a, by rw [← e2 j hj]; exact b⟩
theorem cu_Iv.lo_at {k : Nat} {F L : Nat → Nat} {S : Nat → Bool} (_h : cu_Iv k F L S) {i at_ : Nat} (h1 : ∀ t, t < i → L t < at_) : cu_lo L i ≤ at_ := by
  cases i with
  | zero => exact Nat.zero_le _
  | succ i => exact h1 i (Nat.lt_succ_self i)
/-- whether a number is in the set, when all stretches before the i-th end ahead of it -/
theorem cu_Iv.isin {k : Nat} {F L : Nat → Nat} {S : Nat → Bool} (h : cu_Iv k F L S) {i at_ : Nat} (hi : i ≤ k) (h1 : ∀ t, t < i → L t < at_) (h2 : i < k → at_ ≤ L i) : S at_ = (decide (i < k) && decide (F i ≤ at_)) := by
  by_cases q : i < k
  · by_cases r : F i ≤ at_
    · rw [h.inn q r (h2 q)]; simp [q, r]
    · rw [h.gap q (h.lo_at h1) (by omega)]; simp [r]
  · have e : i = k := by omega
    subst e
    rw [h.fin (h.lo_at h1)]; simp
def cu_nxt (k : Nat) (F L : Nat → Nat) (i at_ : Nat) : Nat := if i < k then (if F i ≤ at_ then L i + 1 else F i) else 256
theorem cu_Iv.nxt {k : Nat} {F L : Nat → Nat} {S : Nat → Bool} (h : cu_Iv k F L S) {i at_ : Nat} (hi : i ≤ k) (h1 : ∀ t, t < i → L t < at_) (h2 : i < k → at_ ≤ L i) (hat : at_ < 256) : at_ < cu_nxt k F L i at_ ∧ cu_nxt k F L i at_ ≤ 256 ∧ ∀ n, at_ ≤ n → n < cu_nxt k F L i at_ → S n = S at_ := by
  unfold cu_nxt
  by_cases q : i < k
  · have a := h.1 i q
    have b := h2 q
    by_cases r : F i ≤ at_
    · rw [if_pos q, if_pos r]
      refine ⟨by omega, by omega, fun n g1 g2 => ?_⟩
      rw [h.inn q r b, h.inn q (n := n) (by omega) (by omega)]
    · rw [if_pos q, if_neg r]
      refine ⟨by omega, by omega, fun n g1 g2 => ?_⟩
      have c := h.lo_at h1
      rw [h.gap q c (by omega), h.gap q (n := n) (by omega) g2]
  · rw [if_neg q]
    have e : i = k := by omega
    subst e
    have c := h.lo_at h1
    refine ⟨hat, Nat.le_refl _, fun n g1 g2 => ?_⟩
    rw [h.fin c, h.fin (n := n) (by omega)]
/-- the set cut at a number -/
def cu_to (P : Nat → Bool) (at_ n : Nat) : Bool := decide (n < at_) && P n
theorem cu_to_step {P : Nat → Bool} {a b : Nat} (hab : a ≤ b) (v : Bool) (h : ∀ n, a ≤ n → n < b → P n = v) (n : Nat) : cu_to P b n = (cu_to P a n || (v && (decide (a ≤ n) && decide (n ≤ b - 1) && decide (n < b)))) := by
  unfold cu_to
  by_cases q : n < a
  · have e1 : n < b := by omega
    have e2 : ¬ a ≤ n := by omega
    simp [q, e1, e2]
  · by_cases r : n < b
    · have e2 : a ≤ n := by omega
      have e3 : n ≤ b - 1 := by omega
      rw [h n e2 r]
      simp [q, r, e2, e3]
    · simp [q, r]
theorem cu_to_in {P : Nat → Bool} {a b : Nat} (hab : a < b) (h : ∀ n, a ≤ n → n < b → P n = true) (n : Nat) : cu_to P b n = (cu_to P a n || (decide (a ≤ n) && decide (n ≤ b - 1))) := by
  rw [cu_to_step (Nat.le_of_lt hab) true h n]
  by_cases r : n < b
  · simp [r]
  · have e3 : ¬ n ≤ b - 1 := by omega
    simp [r, e3]
theorem cu_to_out {P : Nat → Bool} {a b : Nat} (hab : a ≤ b) (h : ∀ n, a ≤ n → n < b → P n = false) (n : Nat) : cu_to P b n = cu_to P a n := by
  rw [cu_to_step hab false h n]
  simp
theorem cu_to_runs {P : Nat → Bool} {a : Nat} (ha : a ≤ 256) : cu_runs (cu_to P a) = fb_ct (cu_st P) a := by
  unfold cu_runs
  have e1 : fb_ct (cu_st (cu_to P a)) 256 = fb_ct (cu_st (cu_to P a)) a := cu_ct_same ha (fun n h1 _ => cu_st_no (by
    have : ¬ n < a := by omega
    simp [cu_to, this]))
  rw [e1]
  refine fb_ct_cong (fun k hk => ?_)
  have : k - 1 < a := by omega
  simp [cu_st, cu_to, hk, this]
theorem cu_app_new {k : Nat} {F L : Nat → Nat} {T : Nat → Bool} (h : cu_Iv k F L T) {fr to_ : Nat} (hlt : ∀ n, T n = true → n < fr) (hft : fr ≤ to_) (hto : to_ < 256) (hno : k = 0 ∨ L (k - 1) + 1 ≠ fr) : cu_Iv (k + 1) (va_up F k fr) (va_up L k to_) (fun n => T n || (decide (fr ≤ n) && decide (n ≤ to_))) := by
  refine ⟨fun j hj => ?_, fun j hj => ?_, fun n => ?_⟩
  · by_cases q : j = k
    · subst q
      rw [va_up_self, va_up_self]
      exact ⟨hft, hto⟩
    · rw [va_up_ne _ _ q, va_up_ne _ _ q]
      exact h.1 j (by omega)
  · have q : j ≠ k := by omega
    rw [va_up_ne L _ q]
    by_cases r : j + 1 = k
    · rw [r, va_up_self]
      have a := h.1 j (by omega)
      have b := hlt (L j) (h.inn (by omega) a.1 (Nat.le_refl _))
      have e : k - 1 = j := by omega
      rw [e] at hno
      omega
    · rw [va_up_ne F _ r]
      exact h.2.1 j (by omega)
  · simp only [Bool.or_eq_true, Bool.and_eq_true, decide_eq_true_eq]
    rw [h.2.2 n]
    constructor
    · rintro (⟨j, hj, a, b⟩ | ⟨a, b⟩)
      · have q : j ≠ k := by omega
        exact ⟨j, by omega, by rw [va_up_ne _ _ q]; exact a, by rw [va_up_ne _ _ q]; exact b⟩
      · exact ⟨k, by omega, by rw [va_up_self]; exact a, by rw [va_up_self]; exact b⟩
    · rintro ⟨j, hj, a, b⟩
      by_cases q : j = k
      · subst q
        rw [va_up_self] at a b
        exact Or.inr ⟨a, b⟩
      · rw [va_up_ne _ _ q] at a b
        exact Or.inl ⟨j, by omega, a, b⟩
theorem cu_app_old {k : Nat} {F L : Nat → Nat} {T : Nat → Bool} (h : cu_Iv k F L T) {fr to_ : Nat} (hlt : ∀ n, T n = true → n < fr) (hft : fr ≤ to_) (hto : to_ < 256) (hk : 0 < k) (hm : L (k - 1) + 1 = fr) : cu_Iv k F (va_up L (k - 1) to_) (fun n => T n || (decide (fr ≤ n) && decide (n ≤ to_))) := by
  refine ⟨fun j hj => ?_, fun j hj => ?_, fun n => ?_⟩
  · have a := h.1 j hj
    by_cases q : j = k - 1
    · subst q
      rw [va_up_self]
      omega
    · rw [va_up_ne _ _ q]
      exact a
  · have q : j ≠ k - 1 := by omega
    rw [va_up_ne _ _ q]
    exact h.2.1 j hj
  · simp only [Bool.or_eq_true, Bool.and_eq_true, decide_eq_true_eq]
    rw [h.2.2 n]
    constructor
    · rintro (⟨j, hj, a, b⟩ | ⟨a, b⟩)
      · by_cases q : j = k - 1
        · subst q
          exact ⟨k - 1, by omega, a, by rw [va_up_self]; omega⟩
        · exact ⟨j, hj, a, by rw [va_up_ne _ _ q]; exact b⟩
      · have c := h.1 (k - 1) (by omega)
        exact ⟨k - 1, by omega, by omega, by rw [va_up_self]; exact b⟩
    · rintro ⟨j, hj, a, b⟩
      by_cases q : j = k - 1
      · subst q
        rw [va_up_self] at b
        rcases Nat.lt_or_ge n fr with r | r
        · exact Or.inl ⟨k - 1, by omega, a, by omega⟩
        · exact Or.inr ⟨r, b⟩
      · rw [va_up_ne _ _ q] at b
        exact Or.inl ⟨j, hj, a, b⟩
theorem cu_op_big {how : Nat} {A B : Nat → Bool} (hA : ∀ n, 256 ≤ n → A n = false) (hB : ∀ n, 256 ≤ n → B n = false) (n : Nat) : cu_op how A B n = cu_to (cu_op how A B) 256 n := by
  unfold cu_to
  by_cases q : n < 256
  · simp [q]
  · have a := hA n (by omega)
    have b := hB n (by omega)
    simp [q, cu_op, a, b]
/-- the k-th number with a property, or -3 -/
noncomputable def cu_sel (P : Nat → Bool) (g : Nat → Int32) (kv : Int32) : Int32 := @dite Int32 (∃ n, n < 256 ∧ P n = true ∧ nI (fb_ct P n) = kv) (Classical.propDecidable _) (fun h => g (Classical.choose h)) (fun _ => -3)
theorem cu_sel_at {P : Nat → Bool} {g : Nat → Int32} {kv : Int32} {n : Nat} (hn : n < 256) (hP : P n = true) (hk : nI (fb_ct P n) = kv) : cu_sel P g kv = g n := by
  have h : ∃ n, n < 256 ∧ P n = true ∧ nI (fb_ct P n) = kv := ⟨n, hn, hP, hk⟩
  unfold cu_sel
  rw [dif_pos h]
  obtain ⟨a, b, c⟩ := Classical.choose_spec h
  have e1 := fb_ct_le P n
  have e2 := fb_ct_le P (Classical.choose h)
  rw [fb_ct_kth_one b hP ((nI_eq (by omega) (by omega)).mp (c.trans hk.symm))]
theorem cu_sel_no {P : Nat → Bool} {g : Nat → Int32} {kv : Int32} (h : ∀ n, n < 256 → P n = true → nI (fb_ct P n) ≠ kv) : cu_sel P g kv = -3 := by
  unfold cu_sel
  rw [dif_neg]
  rintro ⟨n, a, b, c⟩
  exact h n a b c
/-- a set's number on a curve of 256, by its rank -/
theorem cu_Iv.nth_at {k : Nat} {F L : Nat → Nat} {S : Nat → Bool} (h : cu_Iv k F L S) {j r : Nat} (hj : j < k) (hr : r < L j - F j + 1) : S (F j + r) = true ∧ fb_ct S (F j + r) = fb_ct S (cu_lo L j) + r ∧ F j + r < 256 := by
  have a := h.1 j hj
  have b : fb_ct S (F j) = fb_ct S (cu_lo L j) := cu_ct_same (h.lo_le hj).1 (fun n h1 h2 => h.gap hj h1 h2)
  have c : fb_ct S (F j + r) = fb_ct S (F j) + (F j + r - F j) := cu_ct_full (by omega) (fun n h1 h2 => h.inn hj h1 (by omega))
  exact ⟨h.inn hj (by omega) (by omega), by omega, by omega⟩
theorem cu_sel_big {P : Nat → Bool} {g : Nat → Int32} {K : Nat} (hK : K < 2 ^ 31) (h : fb_ct P 256 ≤ K) : cu_sel P g (nI K) = -3 := by
  refine cu_sel_no (fun n hn hP e => ?_)
  have a := fb_ct_mono P (show n + 1 ≤ 256 from hn)
  rw [cu_ct_yes hP] at a
  have b := fb_ct_le P 256
  have := (nI_eq (by omega) hK).mp e
  omega
theorem cu_sel_neg {P : Nat → Bool} {g : Nat → Int32} {kv : Int32} (h : kv < 0) : cu_sel P g kv = -3 := by
  refine cu_sel_no (fun n hn hP e => ?_)
  have b := fb_ct_le P n
  rw [← e] at h
  exact nI_pos (by omega) h
end
section
/-! plain law, part 3: squares are blocks of the curve; pieces; touched squares -/
/-- how many numbers a square of a level has -/
def cu_sz : Nat → Nat
  | 0 => 256
  | 1 => 64
  | 2 => 16
  | 3 => 4
  | _ => 1
theorem cu_lev5 {v : Nat} (h : v ≤ 4) : v = 0 ∨ v = 1 ∨ v = 2 ∨ v = 3 ∨ v = 4 := by omega
/-- the block of n at a level is in the set -/
def cu_wh (S : Nat → Bool) (v n : Nat) : Bool := (List.range 256).all (fun k => !(k / cu_sz v == n / cu_sz v) || S k)
theorem cu_wh_iff {S : Nat → Bool} {v n : Nat} : cu_wh S v n = true ↔ ∀ k, k < 256 → k / cu_sz v = n / cu_sz v → S k = true := by
  unfold cu_wh
  simp only [List.all_eq_true, List.mem_range, Bool.or_eq_true, Bool.not_eq_true', beq_eq_false_iff_ne, ne_eq]
  constructor
  · intro h k hk e
    rcases h k hk with q | q
    · exact absurd e q
    · exact q
  · intro h k hk
    by_cases e : k / cu_sz v = n / cu_sz v
    · exact Or.inr (h k hk e)
    · exact Or.inl e
/-- the level of the largest square at n -/
def cu_lev (S : Nat → Bool) (n : Nat) : Nat := if cu_wh S 0 n = true then 0 else if cu_wh S 1 n = true then 1 else if cu_wh S 2 n = true then 2 else if cu_wh S 3 n = true then 3 else 4
theorem cu_lev_le (S : Nat → Bool) (n : Nat) : cu_lev S n ≤ 4 := by
  unfold cu_lev
  repeat' split
  all_goals omega
theorem cu_lev_wh {S : Nat → Bool} {n : Nat} (hn : S n = true) (h2 : n < 256) : cu_wh S (cu_lev S n) n = true := by
  unfold cu_lev
  repeat' split
  all_goals first | assumption | skip
  rw [cu_wh_iff]
  intro k hk e
  have : k = n := by simpa [cu_sz] using e
  rw [this]
  exact hn
theorem cu_lev_min {S : Nat → Bool} {n v : Nat} (hv : v ≤ 4) (h : cu_wh S v n = true) : cu_lev S n ≤ v := by
  unfold cu_lev
  rcases cu_lev5 hv with rfl | rfl | rfl | rfl | rfl
  · simp [h]
  · split <;> simp [h]
  · repeat' split
    all_goals first | omega | simp_all
  · repeat' split
    all_goals first | omega | simp_all
  · repeat' split
    all_goals omega
/-- a piece begins at n -/
def cu_ps (S : Nat → Bool) (n : Nat) : Bool := S n && n % cu_sz (cu_lev S n) == 0
/-- no square of the set that holds n begins ahead of n -/
def cu_Bd (S : Nat → Bool) (n : Nat) : Prop := ∀ v, v ≤ 4 → cu_wh S v n = true → n % cu_sz v = 0
theorem cu_Bd_0 {S : Nat → Bool} {n : Nat} (hn : n < 256) (h : n = 0 ∨ S (n - 1) = false) : cu_Bd S n := by
  intro v hv hw
  rw [cu_wh_iff] at hw
  rcases h with h | h
  · rw [h]; simp
  · by_cases q : n = 0
    · rw [q]; simp
    · by_cases r : (n - 1) / cu_sz v = n / cu_sz v
      · rw [hw (n - 1) (by omega) r] at h
        exact absurd h (by decide)
      · rcases cu_lev5 hv with rfl | rfl | rfl | rfl | rfl <;> simp only [cu_sz] at r ⊢ <;> omega
/-- largestAt: the size of the largest square that begins at a number and ends within a bound -/
def cu_lgo : Nat → Nat → Nat → Nat → Nat
  | 0, sz, _, _ => sz
  | f + 1, sz, at_, bd => if sz < 256 ∧ at_ % (4 * sz) = 0 ∧ at_ + 4 * sz - 1 ≤ bd then cu_lgo f (4 * sz) at_ bd else sz
theorem cu_wh_bd {S : Nat → Bool} {at_ bd v : Nat} (hv : v ≤ 4) (hbd : bd < 256) (h1 : at_ ≤ bd) (hS : ∀ n, at_ ≤ n → n ≤ bd → S n = true) (hE : S (bd + 1) = false) (hB : cu_Bd S at_) : cu_wh S v at_ = true ↔ at_ % cu_sz v = 0 ∧ at_ + cu_sz v - 1 ≤ bd := by
  constructor
  · intro h
    have a := hB v hv h
    refine ⟨a, ?_⟩
    rw [cu_wh_iff] at h
    apply Classical.byContradiction
    intro q
    have b : bd + 1 < 256 ∧ (bd + 1) / cu_sz v = at_ / cu_sz v := by
      rcases cu_lev5 hv with rfl | rfl | rfl | rfl | rfl <;> simp only [cu_sz] at a q ⊢ <;> omega
    rw [h (bd + 1) b.1 b.2] at hE
    exact absurd hE (by decide)
  · rintro ⟨a, b⟩
    rw [cu_wh_iff]
    intro k hk e
    have c : at_ ≤ k ∧ k ≤ bd := by
      rcases cu_lev5 hv with rfl | rfl | rfl | rfl | rfl <;> simp only [cu_sz] at a b e ⊢ <;> omega
    exact hS k c.1 c.2
/-- the largest square that begins here is the largest square of the set -/
theorem cu_lgo_lev {S : Nat → Bool} {at_ bd : Nat} (hbd : bd < 256) (h1 : at_ ≤ bd) (hS : ∀ n, at_ ≤ n → n ≤ bd → S n = true) (hE : S (bd + 1) = false) (hB : cu_Bd S at_) : cu_lgo 4 1 at_ bd = cu_sz (cu_lev S at_) := by
  have w := fun v hv => cu_wh_bd (v := v) hv hbd h1 hS hE hB
  have w0 := w 0 (by omega)
  have w1 := w 1 (by omega)
  have w2 := w 2 (by omega)
  have w3 := w 3 (by omega)
  simp only [cu_sz] at w0 w1 w2 w3
  unfold cu_lev
  by_cases c3 : cu_wh S 3 at_ = true
  · have d3 := w3.mp c3
    by_cases c2 : cu_wh S 2 at_ = true
    · have d2 := w2.mp c2
      by_cases c1 : cu_wh S 1 at_ = true
      · have d1 := w1.mp c1
        by_cases c0 : cu_wh S 0 at_ = true
        · have d0 := w0.mp c0
          rw [if_pos c0]
          simp only [cu_lgo, cu_sz, Nat.reduceMul, Nat.mul_one]
          repeat' split
          all_goals omega
        · have d0 : ¬ (at_ % 256 = 0 ∧ at_ + 256 - 1 ≤ bd) := fun q => c0 (w0.mpr q)
          rw [if_neg c0, if_pos c1]
          simp only [cu_lgo, cu_sz, Nat.reduceMul, Nat.mul_one]
          repeat' split
          all_goals omega
      · have d1 : ¬ (at_ % 64 = 0 ∧ at_ + 64 - 1 ≤ bd) := fun q => c1 (w1.mpr q)
        have c0 : ¬ cu_wh S 0 at_ = true := fun q => d1 (by have := w0.mp q; omega)
        rw [if_neg c0, if_neg c1, if_pos c2]
        simp only [cu_lgo, cu_sz, Nat.reduceMul, Nat.mul_one]
        repeat' split
        all_goals omega
    · have d2 : ¬ (at_ % 16 = 0 ∧ at_ + 16 - 1 ≤ bd) := fun q => c2 (w2.mpr q)
      have c1 : ¬ cu_wh S 1 at_ = true := fun q => d2 (by have := w1.mp q; omega)
      have c0 : ¬ cu_wh S 0 at_ = true := fun q => d2 (by have := w0.mp q; omega)
      rw [if_neg c0, if_neg c1, if_neg c2, if_pos c3]
      simp only [cu_lgo, cu_sz, Nat.reduceMul, Nat.mul_one]
      repeat' split
      all_goals omega
  · have d3 : ¬ (at_ % 4 = 0 ∧ at_ + 4 - 1 ≤ bd) := fun q => c3 (w3.mpr q)
    have c2 : ¬ cu_wh S 2 at_ = true := fun q => d3 (by have := w2.mp q; omega)
    have c1 : ¬ cu_wh S 1 at_ = true := fun q => d3 (by have := w1.mp q; omega)
    have c0 : ¬ cu_wh S 0 at_ = true := fun q => d3 (by have := w0.mp q; omega)
    rw [if_neg c0, if_neg c1, if_neg c2, if_neg c3]
    simp only [cu_lgo, cu_sz, Nat.reduceMul, Nat.mul_one]
    repeat' split
    all_goals omega
/-- a piece at its first number: it is one, the next numbers up to its end are none, and behind it the same holds -/
theorem cu_piece_step {S : Nat → Bool} {at_ bd : Nat} (hbd : bd < 256) (h1 : at_ ≤ bd) (hS : ∀ n, at_ ≤ n → n ≤ bd → S n = true) (hE : S (bd + 1) = false) (hB : cu_Bd S at_) : cu_ps S at_ = true ∧ at_ + cu_sz (cu_lev S at_) ≤ bd + 1 ∧ 0 < cu_sz (cu_lev S at_) ∧ (∀ n, at_ < n → n < at_ + cu_sz (cu_lev S at_) → cu_ps S n = false) ∧ cu_Bd S (at_ + cu_sz (cu_lev S at_)) := by
  have hat : S at_ = true := hS at_ (Nat.le_refl _) h1
  have hl := cu_lev_le S at_
  have hw := cu_lev_wh hat (show at_ < 256 by omega)
  have hwb := (cu_wh_bd hl hbd h1 hS hE hB).mp hw
  have hmin : ∀ v, v ≤ 4 → cu_wh S v at_ = true → cu_lev S at_ ≤ v := fun v hv h => cu_lev_min hv h
  generalize cu_lev S at_ = V at hl hw hwb hmin ⊢
  have hpos : 0 < cu_sz V := by rcases cu_lev5 hl with rfl | rfl | rfl | rfl | rfl <;> decide
  refine ⟨?_, by omega, hpos, fun n g1 g2 => ?_, fun v hv h => ?_⟩
  · have e : cu_lev S at_ = V := by
      have a := hmin _ (cu_lev_le S at_) (cu_lev_wh hat (by omega))
      have b := cu_lev_min hl hw
      omega
    unfold cu_ps
    rw [e, hat, hwb.1]
    rfl
  · have e : n / cu_sz V = at_ / cu_sz V := by
      have := hwb.1
      rcases cu_lev5 hl with rfl | rfl | rfl | rfl | rfl <;> simp only [cu_sz] at this g2 ⊢ <;> omega
    have hw2 : cu_wh S V n = true := by
      rw [cu_wh_iff] at hw ⊢
      intro k hk q
      exact hw k hk (q.trans e)
    have hm := cu_lev_min hl hw2
    have hl2 := cu_lev_le S n
    unfold cu_ps
    have z : (n % cu_sz (cu_lev S n) == 0) = false := by
      rw [beq_eq_false_iff_ne]
      have := hwb.1
      generalize cu_lev S n = V2 at hm hl2 ⊢
      rcases cu_lev5 hl with rfl | rfl | rfl | rfl | rfl <;> rcases cu_lev5 hl2 with rfl | rfl | rfl | rfl | rfl <;> simp only [cu_sz] at this g2 ⊢ <;> omega
    rw [z]
    simp
  · apply Classical.byContradiction
    intro q
    have a := hwb.1
    have hat2 : at_ + cu_sz V < 256 ∨ at_ + cu_sz V = 256 := by omega
    rcases hat2 with hat2 | hat2
    · have key : (at_ + cu_sz V) / cu_sz v = at_ / cu_sz v ∧ v < V := by
        rcases cu_lev5 hl with rfl | rfl | rfl | rfl | rfl <;> rcases cu_lev5 hv with rfl | rfl | rfl | rfl | rfl <;> simp only [cu_sz] at a q hat2 ⊢ <;> omega
      have hw3 : cu_wh S v at_ = true := by
        rw [cu_wh_iff] at h ⊢
        intro k hk r
        exact h k hk (r.trans key.1.symm)
      have := hmin v hv hw3
      omega
    · rw [hat2] at q
      apply q
      rcases cu_lev5 hv with rfl | rfl | rfl | rfl | rfl <;> decide
theorem cu_ps_S {S : Nat → Bool} {n : Nat} (h : S n = false) : cu_ps S n = false := by simp [cu_ps, h]
/-- the first number of its block in the set -/
def cu_fb (S : Nat → Bool) (z n : Nat) : Bool := S n && (List.range n).all (fun k => !(k / z == n / z) || !S k)
theorem cu_fb_yes {S : Nat → Bool} {z n : Nat} (h : S n = true) (h2 : ∀ k, k < n → k / z = n / z → S k = false) : cu_fb S z n = true := by
  unfold cu_fb
  simp only [Bool.and_eq_true, List.all_eq_true, List.mem_range, Bool.or_eq_true, Bool.not_eq_true', beq_eq_false_iff_ne, ne_eq]
  refine ⟨h, fun k hk => ?_⟩
  by_cases e : k / z = n / z
  · exact Or.inr (h2 k hk e)
  · exact Or.inl e
theorem cu_fb_no {S : Nat → Bool} {z n k : Nat} (hk : k < n) (e : k / z = n / z) (h : S k = true) : cu_fb S z n = false := by
  cases q : cu_fb S z n with
  | false => rfl
  | true =>
    unfold cu_fb at q
    simp only [Bool.and_eq_true, List.all_eq_true, List.mem_range, Bool.or_eq_true, Bool.not_eq_true', beq_eq_false_iff_ne, ne_eq] at q
    rcases q.2 k hk with r | r
    · exact absurd e r
    · rw [h] at r
      exact absurd r (by decide)
theorem cu_fb_S {S : Nat → Bool} {z n : Nat} (h : S n = false) : cu_fb S z n = false := by simp [cu_fb, h]
theorem cu_fb_in {S : Nat → Bool} {v a : Nat} (hv : v ≤ 4) : ∀ d, (∀ n, a ≤ n → n ≤ a + d → S n = true) → fb_ct (cu_fb S (cu_sz v)) (a + d + 1) = fb_ct (cu_fb S (cu_sz v)) (a + 1) + ((a + d) / cu_sz v - a / cu_sz v)
  | 0, _ => by simp
  | d + 1, h => by
    have ih := cu_fb_in hv d (fun n h1 h2 => h n h1 (by omega))
    rw [show a + (d + 1) + 1 = (a + d + 1) + 1 by omega, show a + (d + 1) = a + d + 1 by omega]
    by_cases q : (a + d) / cu_sz v = (a + d + 1) / cu_sz v
    · rw [cu_ct_no (cu_fb_no (k := a + d) (by omega) q (h _ (by omega) (by omega))), ih, q]
    · rw [cu_ct_yes (cu_fb_yes (h _ (by omega) (by omega)) (fun k hk e => by
        exfalso
        rcases cu_lev5 hv with rfl | rfl | rfl | rfl | rfl <;> simp only [cu_sz] at q e <;> omega)), ih]
      rcases cu_lev5 hv with rfl | rfl | rfl | rfl | rfl <;> simp only [cu_sz] at q ⊢ <;> omega
theorem cu_Iv.tch_step {k : Nat} {F L : Nat → Nat} {S : Nat → Bool} (h : cu_Iv k F L S) {v j : Nat} (hv : v ≤ 4) (hj : j < k) : fb_ct (cu_fb S (cu_sz v)) (cu_lo L (j + 1)) = fb_ct (cu_fb S (cu_sz v)) (cu_lo L j) + (L j / cu_sz v - F j / cu_sz v + (if 0 < j ∧ L (j - 1) / cu_sz v = F j / cu_sz v then 0 else 1)) := by
  have a := h.1 j hj
  have b : fb_ct (cu_fb S (cu_sz v)) (F j) = fb_ct (cu_fb S (cu_sz v)) (cu_lo L j) := cu_ct_same (h.lo_le hj).1 (fun n h1 h2 => cu_fb_S (h.gap hj h1 h2))
  obtain ⟨d, hd⟩ : ∃ d, L j = F j + d := ⟨L j - F j, by omega⟩
  have c := cu_fb_in (S := S) (a := F j) hv d (fun n h1 h2 => h.inn hj h1 (by omega))
  rw [← hd] at c
  have hF : S (F j) = true := h.inn hj (Nat.le_refl _) a.1
  show fb_ct (cu_fb S (cu_sz v)) (L j + 1) = _
  rw [c]
  by_cases q : 0 < j ∧ L (j - 1) / cu_sz v = F j / cu_sz v
  · rw [if_pos q]
    have e1 := h.sep j (j - 1) (by omega) hj
    have e2 := h.1 (j - 1) (by omega)
    rw [cu_ct_no (cu_fb_no (k := L (j - 1)) (by omega) q.2 (h.inn (j := j - 1) (by omega) e2.1 (Nat.le_refl _))), b]
    omega
  · rw [if_neg q]
    rw [cu_ct_yes (cu_fb_yes hF (fun n hn e => by
      rcases Nat.lt_or_ge n (cu_lo L j) with r | r
      · cases hS : S n with
        | false => rfl
        | true =>
          exfalso
          cases j with
          | zero => exact absurd r (Nat.not_lt_zero _)
          | succ j =>
            apply q
            refine ⟨Nat.succ_pos _, ?_⟩
            have r2 : n < L j + 1 := r
            have s1 := h.2.1 j hj
            rw [show j + 1 - 1 = j by omega]
            rcases cu_lev5 hv with rfl | rfl | rfl | rfl | rfl <;> simp only [cu_sz] at e ⊢ <;> omega
      · exact h.gap hj r hn)), b]
    omega
theorem cu_Iv.tch_end {k : Nat} {F L : Nat → Nat} {S : Nat → Bool} (h : cu_Iv k F L S) (z : Nat) : fb_ct (cu_fb S z) (cu_lo L k) = fb_ct (cu_fb S z) 256 :=
  (cu_ct_same (h.lo_256 (Nat.le_refl _)) (fun _ h1 _ => cu_fb_S (h.fin h1))).symm
/-- a block that the set meets -/
def cu_tb (S : Nat → Bool) (z b : Nat) : Bool := (List.range 256).any (fun n => n / z == b && S n)
theorem cu_tb_iff {S : Nat → Bool} {z b : Nat} : cu_tb S z b = true ↔ ∃ n, n < 256 ∧ n / z = b ∧ S n = true := by
  unfold cu_tb
  simp only [List.any_eq_true, List.mem_range, Bool.and_eq_true, beq_iff_eq]
/-- as many numbers are the first of their blocks as blocks are met -/
theorem cu_fb_tb {S : Nat → Bool} {v : Nat} (hv : v ≤ 4) (hS : ∀ n, 256 ≤ n → S n = false) : ∀ b, b * cu_sz v ≤ 256 → fb_ct (cu_fb S (cu_sz v)) (b * cu_sz v) = fb_ct (cu_tb S (cu_sz v)) b
  | 0, _ => by simp [fb_ct]
  | b + 1, hb => by
    have hmul : (b + 1) * cu_sz v = b * cu_sz v + cu_sz v := Nat.succ_mul _ _
    have ih := cu_fb_tb hv hS b (by omega)
    have hz : 0 < cu_sz v := by rcases cu_lev5 hv with rfl | rfl | rfl | rfl | rfl <;> decide
    have inb : ∀ n, n / cu_sz v = b ↔ b * cu_sz v ≤ n ∧ n < b * cu_sz v + cu_sz v := by
      intro n
      rcases cu_lev5 hv with rfl | rfl | rfl | rfl | rfl <;> simp only [cu_sz] <;> omega
    rw [fb_ct_succ, ← ih, hmul]
    by_cases q : cu_tb S (cu_sz v) b = true
    · rw [if_pos q]
      obtain ⟨n0, g1, g2, g3⟩ := cu_tb_iff.mp q
      obtain ⟨m, ⟨m1, m2⟩, m3⟩ := pk_least (fun n => n / cu_sz v = b ∧ S n = true) ⟨n0, g2, g3⟩
      have mb := (inb m).mp m1
      have c1 : fb_ct (cu_fb S (cu_sz v)) m = fb_ct (cu_fb S (cu_sz v)) (b * cu_sz v) := cu_ct_same mb.1 (fun n h1 h2 => cu_fb_S (by
        cases hs : S n with
        | false => rfl
        | true => exact absurd ⟨(inb n).mpr ⟨h1, by omega⟩, hs⟩ (m3 n h2)))
      have c2 : cu_fb S (cu_sz v) m = true := cu_fb_yes m2 (fun k hk e => by
        cases hs : S k with
        | false => rfl
        | true => exact absurd ⟨e.trans m1, hs⟩ (m3 k hk))
      have c3 : fb_ct (cu_fb S (cu_sz v)) (b * cu_sz v + cu_sz v) = fb_ct (cu_fb S (cu_sz v)) (m + 1) := cu_ct_same (by omega) (fun n h1 h2 => cu_fb_no (k := m) (by omega) (by rw [m1, (inb n).mpr ⟨by omega, h2⟩]) m2)
      rw [c3, cu_ct_yes c2, c1]
    · rw [if_neg q]
      refine cu_ct_same (by omega) (fun n h1 h2 => cu_fb_S ?_)
      cases hs : S n with
      | false => rfl
      | true =>
        exfalso
        apply q
        refine cu_tb_iff.mpr ⟨n, ?_, (inb n).mpr ⟨h1, h2⟩, hs⟩
        rcases Nat.lt_or_ge n 256 with r | r
        · exact r
        · rw [hS n r] at hs
          exact absurd hs (by decide)
end
section
/-! plain law, part 4: the curve's numbers, cells and squares -/
def cu_bit (x w : Nat) : Nat := if x &&& w = 0 then 0 else 1
def cu_nx (x y w : Nat) : Nat := if cu_bit y w = 1 then x else if cu_bit x w = 0 then y else 15 - y
def cu_ny (x y w : Nat) : Nat := if cu_bit y w = 1 then y else if cu_bit x w = 0 then x else 15 - x
def cu_nn (x y n w : Nat) : Nat := 4 * n + (3 * cu_bit x w ^^^ cu_bit y w)
def cu_go : Nat → Nat → Nat → Nat → Nat
  | 0, _, _, n => n
  | t + 1, x, y, n => cu_go t (cu_nx x y (2 ^ t)) (cu_ny x y (2 ^ t)) (cu_nn x y n (2 ^ t))
def cu_num (x y : Nat) : Nat := cu_go 4 x y 0
/-- the curve's number of the cell c -/
def cu_hn (c : Nat) : Nat := cu_num (c / 16) (c % 16)
def cu_ga (r : Nat) : Nat := r / 2 ^ 1 &&& 1
def cu_gb (r : Nat) : Nat := (r ^^^ cu_ga r) &&& 1
def cu_gx (r w X Y : Nat) : Nat := (if cu_gb r = 0 then (if cu_ga r = 0 then Y else w - 1 - Y) else X) + w * cu_ga r
def cu_gy (r w X Y : Nat) : Nat := (if cu_gb r = 0 then (if cu_ga r = 0 then X else w - 1 - X) else Y) + w * cu_gb r
def cu_fgo : Nat → Nat → Nat → Nat → Nat → Nat × Nat
  | 0, _, _, X, Y => (X, Y)
  | f + 1, r, w, X, Y => cu_fgo f (r / 2 ^ 2) (w * 2) (cu_gx r w X Y) (cu_gy r w X Y)
/-- the cell of the curve's number n -/
def cu_hp (n : Nat) : Nat := 16 * (cu_fgo 4 n 1 0 0).1 + (cu_fgo 4 n 1 0 0).2
theorem cu_hn_hp : ∀ n, n < 256 → cu_hn (cu_hp n) = n ∧ cu_hp n < 256 := by decide +kernel
theorem cu_hp_hn : ∀ c, c < 256 → cu_hp (cu_hn c) = c ∧ cu_hn c < 256 := by decide +kernel
theorem cu_hn_xy {x y : Nat} (hx : x < 16) (hy : y < 16) : cu_hn (16 * x + y) = cu_num x y := by
  unfold cu_hn
  rw [show (16 * x + y) / 16 = x by omega, show (16 * x + y) % 16 = y by omega]
/-- the side of a square of a level -/
def cu_sd : Nat → Nat
  | 0 => 16
  | 1 => 8
  | 2 => 4
  | 3 => 2
  | _ => 1
def cu_blk (v u w : Nat) : Nat := cu_hn (16 * (u * cu_sd v) + w * cu_sd v) / cu_sz v
theorem cu_blk_of0 : ∀ v, v < 5 → ∀ c, c < 256 → cu_hn c / cu_sz v = cu_blk v (c / 16 / cu_sd v) (c % 16 / cu_sd v) := by decide +kernel
theorem cu_blk_of {v c : Nat} (hv : v ≤ 4) (hc : c < 256) : cu_hn c / cu_sz v = cu_blk v (c / 16 / cu_sd v) (c % 16 / cu_sd v) := cu_blk_of0 v (by omega) c hc
theorem cu_blk_inv0 : ∀ v, v < 5 → ∀ u, u < 2 ^ v → ∀ w, w < 2 ^ v → (cu_hp (cu_blk v u w * cu_sz v) / 16 / cu_sd v = u ∧ cu_hp (cu_blk v u w * cu_sz v) % 16 / cu_sd v = w) ∧ cu_blk v u w < 4 ^ v := by decide +kernel
theorem cu_blk_inj {v u w u2 w2 : Nat} (hv : v ≤ 4) (h1 : u < 2 ^ v) (h2 : w < 2 ^ v) (h3 : u2 < 2 ^ v) (h4 : w2 < 2 ^ v) (h : cu_blk v u w = cu_blk v u2 w2) : u = u2 ∧ w = w2 := by
  have a := (cu_blk_inv0 v (by omega) u h1 w h2).1
  have b := (cu_blk_inv0 v (by omega) u2 h3 w2 h4).1
  rw [h] at a
  exact ⟨a.1.symm.trans b.1, a.2.symm.trans b.2⟩
/-- whether a cell is in a square -/
def cu_isq (c v u w : Nat) : Bool := decide (c / 16 / cu_sd v = u ∧ c % 16 / cu_sd v = w)
theorem cu_sq_lt {v c : Nat} (hv : v ≤ 4) (hc : c < 256) : c / 16 / cu_sd v < 2 ^ v ∧ c % 16 / cu_sd v < 2 ^ v := by
  rcases cu_lev5 hv with rfl | rfl | rfl | rfl | rfl <;> simp only [cu_sd] <;> omega
theorem cu_isq_blk {c v u w : Nat} (hv : v ≤ 4) (hc : c < 256) (hu : u < 2 ^ v) (hw : w < 2 ^ v) : cu_isq c v u w = true ↔ cu_hn c / cu_sz v = cu_blk v u w := by
  unfold cu_isq
  rw [decide_eq_true_iff, cu_blk_of hv hc]
  constructor
  · rintro ⟨a, b⟩
    rw [a, b]
  · intro h
    have g := cu_sq_lt hv hc
    exact cu_blk_inj hv g.1 g.2 hu hw h
theorem cu_isq_same {c c2 v : Nat} (hv : v ≤ 4) (hc : c < 256) (hc2 : c2 < 256) : cu_isq c2 v (c / 16 / cu_sd v) (c % 16 / cu_sd v) = true ↔ cu_hn c2 / cu_sz v = cu_hn c / cu_sz v := by
  have g := cu_sq_lt hv hc
  rw [cu_isq_blk hv hc2 g.1 g.2, cu_blk_of hv hc]
/-- over cells: the square at a cell is whole -/
theorem cu_wh_cells {S : Nat → Bool} {M : Nat → Bool} {v c : Nat} (hM : ∀ c, c < 256 → M c = S (cu_hn c)) (hv : v ≤ 4) (hc : c < 256) : cu_wh S v (cu_hn c) = true ↔ ∀ c2, c2 < 256 → cu_isq c2 v (c / 16 / cu_sd v) (c % 16 / cu_sd v) = true → M c2 = true := by
  rw [cu_wh_iff]
  constructor
  · intro h c2 hc2 q
    rw [hM c2 hc2]
    exact h _ (cu_hp_hn c2 hc2).2 ((cu_isq_same hv hc hc2).mp q)
  · intro h k hk q
    have a := cu_hn_hp k hk
    have b := h (cu_hp k) a.2 ((cu_isq_same hv hc a.2).mpr (by rw [a.1]; exact q))
    rw [hM _ a.2, a.1] at b
    exact b
theorem cu_tb_cells {S : Nat → Bool} {M : Nat → Bool} {v u w : Nat} (hM : ∀ c, c < 256 → M c = S (cu_hn c)) (hv : v ≤ 4) (hu : u < 2 ^ v) (hw : w < 2 ^ v) : cu_tb S (cu_sz v) (cu_blk v u w) = true ↔ ∃ c, c < 256 ∧ M c = true ∧ cu_isq c v u w = true := by
  rw [cu_tb_iff]
  constructor
  · rintro ⟨n, hn, q, r⟩
    have a := cu_hn_hp n hn
    exact ⟨cu_hp n, a.2, by rw [hM _ a.2, a.1]; exact r, (cu_isq_blk hv a.2 hu hw).mpr (by rw [a.1]; exact q)⟩
  · rintro ⟨c, hc, q, r⟩
    exact ⟨cu_hn c, (cu_hp_hn c hc).2, (cu_isq_blk hv hc hu hw).mp r, by rw [← hM c hc]; exact q⟩
theorem cu_lev_eq {S : Nat → Bool} {n v : Nat} (hv : v ≤ 3) (h : cu_wh S v n = true) (h2 : ∀ k, k < v → cu_wh S k n = false) : cu_lev S n = v := by
  have a := cu_lev_min (show v ≤ 4 by omega) h
  rcases Nat.lt_or_ge (cu_lev S n) v with q | q
  · exfalso
    have b := h2 _ q
    unfold cu_lev at b q
    repeat' split at b
    all_goals simp_all
    omega
  · omega
theorem cu_lev_4 {S : Nat → Bool} {n : Nat} (h2 : ∀ k, k < 4 → cu_wh S k n = false) : cu_lev S n = 4 := by
  unfold cu_lev
  rw [h2 0 (by omega), h2 1 (by omega), h2 2 (by omega), h2 3 (by omega)]
  rfl
theorem cu_ct_list (P : Nat → Bool) : ∀ n, fb_ct P n = (List.range n).countP P
  | 0 => rfl
  | n + 1 => by
    rw [fb_ct_succ, cu_ct_list P n, List.range_succ, List.countP_append]
    cases h : P n <;> simp [h]
theorem cu_hn_perm : ((List.range 256).map cu_hn).Perm (List.range 256) := List.isPerm_iff.mp (by decide +kernel)
/-- counting over cells is counting over the curve -/
theorem cu_ct_cells {S : Nat → Bool} {M : Nat → Bool} (hM : ∀ c, c < 256 → M c = S (cu_hn c)) : fb_ct M 256 = fb_ct S 256 := by
  rw [fb_ct_cong hM, cu_ct_list S, ← cu_hn_perm.countP_eq, List.countP_map, cu_ct_list]
  rfl
def cu_blks (v : Nat) (n : Nat) : List Nat := (List.range n).flatMap (fun u => (List.range (2 ^ v)).map (fun w => cu_blk v u w))
theorem cu_blk_perm0 : ∀ v, v < 5 → (cu_blks v (2 ^ v)).isPerm (List.range (4 ^ v)) = true := by decide +kernel
theorem cu_blks_ct (v : Nat) (p : Nat → Bool) : ∀ n, fb_sm (fun u => fb_ct (fun w => p (cu_blk v u w)) (2 ^ v)) n = (cu_blks v n).countP p
  | 0 => rfl
  | n + 1 => by
    rw [fb_sm_succ, cu_blks_ct v p n, cu_ct_list]
    unfold cu_blks
    rw [List.range_succ, List.flatMap_append, List.countP_append]
    simp [List.countP_map]
    rfl
theorem cu_sz_pow {v : Nat} (hv : v ≤ 4) : 4 ^ v * cu_sz v = 256 := by
  rcases cu_lev5 hv with rfl | rfl | rfl | rfl | rfl <;> decide
/-- counting squares met is counting first numbers of blocks -/
theorem cu_tch_all {S : Nat → Bool} {v : Nat} (hv : v ≤ 4) (hS : ∀ n, 256 ≤ n → S n = false) : fb_sm (fun u => fb_ct (fun w => cu_tb S (cu_sz v) (cu_blk v u w)) (2 ^ v)) (2 ^ v) = fb_ct (cu_fb S (cu_sz v)) 256 := by
  rw [cu_blks_ct v (cu_tb S (cu_sz v)), (List.isPerm_iff.mp (cu_blk_perm0 v (by omega))).countP_eq, ← cu_ct_list, ← cu_fb_tb hv hS (4 ^ v) (by rw [cu_sz_pow hv]; exact Nat.le_refl _), cu_sz_pow hv]
end
section
/-! the answers, as functions of the four sets over the curve -/
def cu_ok (sv : Int32) : Bool := decide (¬ sv < 0) && decide (¬ nI 3 < sv)
theorem cu_of_to {sv : Int32} {n : Nat} (hn : n < 2 ^ 31) (h1 : ¬ sv < 0) (h2 : ¬ nI n < sv) : ∃ a, a ≤ n ∧ sv = nI a :=
  nI_of2 (M := nI n) (nI_toInt hn) h1 (fa_of_nlt h2)
theorem cu_ok_of {sv : Int32} (h : cu_ok sv = true) : ∃ a, a < 4 ∧ sv = nI a := by
  simp only [cu_ok, Bool.and_eq_true, decide_eq_true_eq] at h
  obtain ⟨j, hj, e⟩ := cu_of_to (n := 3) (by omega) h.1 h.2
  exact ⟨j, by omega, e⟩
theorem cu_ok_nI {a : Nat} (h : a < 4) : cu_ok (nI a) = true := by
  rcases (show a = 0 ∨ a = 1 ∨ a = 2 ∨ a = 3 by omega) with rfl | rfl | rfl | rfl <;> decide +kernel
def cu_on (f : Nat → Int32) (sv : Int32) : Int32 := if cu_ok sv = true then f sv.toNatClampNeg else -1
theorem cu_on_ok {f : Nat → Int32} {a : Nat} (h : a < 4) : cu_on f (nI a) = f a := by rw [cu_on, if_pos (cu_ok_nI h), nI_clamp (by omega)]
theorem cu_on_no {f : Nat → Int32} {sv : Int32} (h : cu_ok sv = false) : cu_on f sv = -1 := by rw [cu_on, if_neg (by rw [h]; decide)]
def cu_cell (xv yv : Int32) : Bool := decide (¬ xv < 0) && decide (¬ nI 15 < xv) && decide (¬ yv < 0) && decide (¬ nI 15 < yv)
theorem cu_cell_of {xv yv : Int32} (h : cu_cell xv yv = true) : ∃ x y, x < 16 ∧ y < 16 ∧ xv = nI x ∧ yv = nI y := by
  simp only [cu_cell, Bool.and_eq_true, decide_eq_true_eq] at h
  obtain ⟨x, hx, e1⟩ := cu_of_to (n := 15) (by omega) h.1.1.1 h.1.1.2
  obtain ⟨y, hy, e2⟩ := cu_of_to (n := 15) (by omega) h.1.2 h.2
  exact ⟨x, y, by omega, by omega, e1, e2⟩
theorem cu_nI_in {a n : Nat} (h : a ≤ n) (hn : n < 2 ^ 31) : ¬ nI a < 0 ∧ ¬ nI n < nI a := ⟨nI_pos (by omega), nI_nlt h hn⟩
theorem cu_cell_nI {x y : Nat} (hx : x < 16) (hy : y < 16) : cu_cell (nI x) (nI y) = true := by
  have a := cu_nI_in (a := x) (n := 15) (by omega) (by omega)
  have b := cu_nI_in (a := y) (n := 15) (by omega) (by omega)
  simp [cu_cell, a, b]
def cu_cnum (xv yv : Int32) : Int32 := if cu_cell xv yv = true then nI (cu_num xv.toNatClampNeg yv.toNatClampNeg) else -1
theorem cu_cnum_ok {x y : Nat} (hx : x < 16) (hy : y < 16) : cu_cnum (nI x) (nI y) = nI (cu_num x y) := by rw [cu_cnum, if_pos (cu_cell_nI hx hy), nI_clamp (by omega), nI_clamp (by omega)]
theorem cu_cnum_no {xv yv : Int32} (h : cu_cell xv yv = false) : cu_cnum xv yv = -1 := by rw [cu_cnum, if_neg (by rw [h]; decide)]
def cu_plc (nv : Int32) : Int32 := if ¬ nv < 0 ∧ ¬ nI 255 < nv then nI (cu_hp nv.toNatClampNeg) else -1
theorem cu_plc_ok {n : Nat} (h : n < 256) : cu_plc (nI n) = nI (cu_hp n) := by rw [cu_plc, if_pos (cu_nI_in (by omega) (by omega)), nI_clamp (by omega)]
def cu_lv (f : Nat → Int32) (lv : Int32) : Int32 := if ¬ lv < 0 ∧ ¬ nI 4 < lv then f lv.toNatClampNeg else -1
theorem cu_lv_ok {f : Nat → Int32} {v : Nat} (h : v ≤ 4) : cu_lv f (nI v) = f v := by rw [cu_lv, if_pos (cu_nI_in h (by omega)), nI_clamp (by omega)]
def cu_has (S : Nat → Nat → Bool) (sv xv yv : Int32) : Bool := cu_ok sv && (cu_cell xv yv && S sv.toNatClampNeg (cu_num xv.toNatClampNeg yv.toNatClampNeg))
theorem cu_has_ok {S : Nat → Nat → Bool} {a x y : Nat} (ha : a < 4) (hx : x < 16) (hy : y < 16) : cu_has S (nI a) (nI x) (nI y) = S a (cu_num x y) := by
  rw [cu_has, cu_ok_nI ha, cu_cell_nI hx hy, nI_clamp (by omega), nI_clamp (by omega), nI_clamp (by omega)]; rfl
/-- the sets of CellUnion's arrays -/
def cu_RX (C F L : Nat → Nat) (S : Nat → Nat → Bool) : Prop := ∀ a, a < 4 → C a ≤ 40 ∧ cu_Iv (C a) (fun j => F (40 * a + j)) (fun j => L (40 * a + j)) (S a)
/-- the sets of CellUnionModel's arrays -/
def cu_RM (Nm Pl : Nat → Nat) (Mk : Nat → Bool) (S : Nat → Nat → Bool) : Prop := (∀ c, c < 256 → Nm c = cu_hn c) ∧ (∀ n, n < 256 → Pl n = cu_hp n) ∧ ∀ a, a < 4 → ∀ c, c < 256 → Mk (256 * a + c) = S a (cu_hn c)
/-- a set takes the place of another, if it has no more than forty runs -/
def cu_keep (S : Nat → Nat → Bool) (d : Nat) (T : Nat → Bool) : Int32 × (Nat → Nat → Bool) := if cu_runs T ≤ 40 then (nI (fb_ct T 256), fun q => if q = d then T else S q) else (-2, S)
def cu_comb (S : Nat → Nat → Bool) (dv hv av bv : Int32) : Int32 × (Nat → Nat → Bool) := if cu_ok dv = true ∧ cu_ok av = true ∧ cu_ok bv = true ∧ ¬ hv < 0 ∧ ¬ nI 2 < hv then cu_keep S dv.toNatClampNeg (cu_op hv.toNatClampNeg (S av.toNatClampNeg) (S bv.toNatClampNeg)) else (-1, S)
/-- a square put into a set, or taken out of it -/
def cu_put (A : Nat → Bool) (v u w : Nat) (b : Bool) (n : Nat) : Bool := if n / cu_sz v = cu_blk v u w then b else A n
def cu_sqok (q : Nat) : Prop := q / 1024 ≤ 4 ∧ q / 32 % 32 < 2 ^ (q / 1024) ∧ q % 32 < 2 ^ (q / 1024)
noncomputable def cu_chg (S : Nat → Nat → Bool) (sv qv : Int32) (b : Bool) : Int32 × (Nat → Nat → Bool) := @ite _ (cu_ok sv = true ∧ ¬ qv < 0 ∧ cu_sqok qv.toNatClampNeg) (Classical.propDecidable _) (cu_keep S sv.toNatClampNeg (cu_put (S sv.toNatClampNeg) (qv.toNatClampNeg / 1024) (qv.toNatClampNeg / 32 % 32) (qv.toNatClampNeg % 32) b)) (-1, S)
theorem nb_narB (b : Bool) : narrow .boolean (.int (nI b.toNat)) = .int (nI b.toNat) := by cases b <;> decide +kernel
theorem nb_narI (x : Int32) : narrow .int (.int x) = .int x := rfl
def cu_w : Nat → Nat
  | 0 => 0
  | t + 1 => 2 ^ t
theorem cu_w_le {t : Nat} (h : t ≤ 4) : cu_w t ≤ 8 := by rcases cu_lev5 h with rfl | rfl | rfl | rfl | rfl <;> decide
theorem cu_w_half {t : Nat} (h : t ≤ 3) : 2 ^ t / 2 = cu_w t := by rcases (show t = 0 ∨ t = 1 ∨ t = 2 ∨ t = 3 by omega) with rfl | rfl | rfl | rfl <;> decide
theorem cu_sz_1 {u : Nat} (h : u ≤ 4) : (cu_sz u ≤ 1 ↔ u = 4) ∧ cu_sz u ≤ 256 ∧ 0 < cu_sz u := by rcases cu_lev5 h with rfl | rfl | rfl | rfl | rfl <;> decide
theorem cu_sz_4 {u : Nat} (h : u < 4) : cu_sz u / 4 = cu_sz (u + 1) := by rcases (show u = 0 ∨ u = 1 ∨ u = 2 ∨ u = 3 by omega) with rfl | rfl | rfl | rfl <;> decide
theorem cu_bit_01 (x w : Nat) : cu_bit x w = 0 ∨ cu_bit x w = 1 := by unfold cu_bit; split <;> simp
theorem cu_255 : ∀ n, n < 256 → n &&& 255 = n := by decide +kernel
theorem cu_num_lt {x y : Nat} (hx : x < 16) (hy : y < 16) : cu_num x y < 256 := by
  rw [← cu_hn_xy hx hy]
  exact (cu_hp_hn _ (by omega)).2
theorem cu_sd_pow {v : Nat} (hv : v ≤ 4) : 16 / 2 ^ v = cu_sd v ∧ cu_sd v ≤ 16 ∧ 0 < cu_sd v := by rcases cu_lev5 hv with rfl | rfl | rfl | rfl | rfl <;> decide
theorem cu_isq_iff {c v u w : Nat} (hv : v ≤ 4) : cu_isq c v u w = true ↔ u * cu_sd v ≤ c / 16 ∧ c / 16 < (u + 1) * cu_sd v ∧ w * cu_sd v ≤ c % 16 ∧ c % 16 < (w + 1) * cu_sd v := by
  unfold cu_isq
  rw [decide_eq_true_iff]
  rcases cu_lev5 hv with rfl | rfl | rfl | rfl | rfl <;> simp only [cu_sd] <;> omega
theorem cu_isq_f {c v u w : Nat} (hv : v ≤ 4) (h : ¬ (u * cu_sd v ≤ c / 16 ∧ c / 16 < (u + 1) * cu_sd v ∧ w * cu_sd v ≤ c % 16 ∧ c % 16 < (w + 1) * cu_sd v)) : cu_isq c v u w = false := by
  cases q : cu_isq c v u w with
  | false => rfl
  | true => exact absurd ((cu_isq_iff hv).mp q) h
theorem cu_Iv.mono {k : Nat} {F L : Nat → Nat} {S : Nat → Bool} (h : cu_Iv k F L S) {i j : Nat} (hij : i ≤ j) (hj : j < k) : L i ≤ L j := by
  rcases Nat.lt_or_ge i j with q | q
  · have a := h.sep j i q hj
    have b := (h.1 j hj).1
    omega
  · rw [show i = j by omega]
    exact Nat.le_refl _
theorem cu_ps_to {k : Nat} {F L : Nat → Nat} {S : Nat → Bool} (h : cu_Iv k F L S) {j : Nat} (hj : j < k) : fb_ct (cu_ps S) (F j) = fb_ct (cu_ps S) (cu_lo L j) := cu_ct_same (h.lo_le hj).1 (fun n h1 h2 => cu_ps_S (h.gap hj h1 h2))
theorem cu_ps_end {k : Nat} {F L : Nat → Nat} {S : Nat → Bool} (h : cu_Iv k F L S) : fb_ct (cu_ps S) (cu_lo L k) = fb_ct (cu_ps S) 256 := (cu_ct_same (h.lo_256 (Nat.le_refl _)) (fun _ h1 _ => cu_ps_S (h.fin h1))).symm
theorem cu_Iv.Bd {k : Nat} {F L : Nat → Nat} {S : Nat → Bool} (h : cu_Iv k F L S) {j : Nat} (hj : j < k) : cu_Bd S (F j) := by
  have a := h.1 j hj
  refine cu_Bd_0 (by omega) ?_
  rcases Nat.eq_zero_or_pos (F j) with q | q
  · exact Or.inl q
  · refine Or.inr (h.gap hj ?_ (by omega))
    have b := h.lo_le hj
    rcases Nat.eq_zero_or_pos j with r | r
    · rw [r]
      exact Nat.zero_le _
    · have := b.2 r
      omega
theorem cu_dec (kv : Int32) (c : Nat) : kv - nI c + Int32.ofInt (-1) = kv - nI (c + 1) := by
  rw [nI_succ, show Int32.ofInt (-1) = (-1 : Int32) by decide +kernel]
  grind
theorem cu_left0 {kv : Int32} {c : Nat} (h : kv - nI c = 0) : nI c = kv := by grind
theorem cu_left1 {kv : Int32} {c : Nat} (h : ¬ kv - nI c = 0) : nI c ≠ kv := by
  intro e
  apply h
  rw [← e]
  grind
theorem cu_le_nlt {x y : Int32} (h : x ≤ y) : ¬ y < x := by
  rw [fa_le] at h
  rw [fa_lt]
  omega
theorem cu_sz_sh {v : Nat} (hv : v ≤ 4) : 2 ^ (8 - 2 * v) = cu_sz v := by rcases cu_lev5 hv with rfl | rfl | rfl | rfl | rfl <;> decide
def cu_bf (L : Nat → Nat) (z : Nat) : Nat → Int32
  | 0 => -1
  | j + 1 => nI (L j / z)
theorem cu_bf_eq {L : Nat → Nat} {z j y : Nat} (hL : ∀ q, L q < 256) (hy : y < 256) : nI y = cu_bf L z j ↔ 0 < j ∧ L (j - 1) / z = y := by
  cases j with
  | zero =>
    constructor
    · intro h
      have a : ¬ nI y < 0 := nI_pos (by omega)
      rw [h] at a
      exact absurd (show (-1 : Int32) < 0 by decide +kernel) a
    · intro h
      exact absurd h.1 (Nat.lt_irrefl _)
  | succ j =>
    have b : L j / z < 256 := Nat.lt_of_le_of_lt (Nat.div_le_self _ _) (hL j)
    show nI y = nI (L j / z) ↔ _
    rw [nI_eq (by omega) (by omega)]
    constructor
    · intro h
      exact ⟨Nat.succ_pos _, h.symm⟩
    · intro h
      exact h.2.symm
theorem cu_tch1 {t a b : Nat} (h : a ≤ b) : nI t + (nI b - nI a + nI 1) = nI (t + (b - a + 1)) := by
  rw [pk_sub h, nI_add, nI_add]
theorem cu_tch0 {t a b : Nat} (h : a ≤ b) : nI t + (nI b - nI (a + 1) + nI 1) = nI (t + (b - a + 0)) := by
  show _ = nI (t + (b - a))
  rw [← nI_add t, ← pk_sub h, nI_succ, show nI 1 = (1 : Int32) by decide +kernel]
  grind
end
section
/-! plain law, part 6: what the writing methods of CellUnion need -/
theorem cu_ga_le (r : Nat) : cu_ga r ≤ 1 := Nat.and_le_right
theorem cu_gb_le (r : Nat) : cu_gb r ≤ 1 := Nat.and_le_right
/-- CellUnion's arrays hold the sets S -/
def cu_XOK (u : XU) (S : Nat → Nat → Bool) : Prop := (∀ q, u.1 q < 128) ∧ (∀ q, u.2.1 q < 256) ∧ (∀ q, u.2.2.1 q < 256) ∧ (∀ q, u.2.2.2.1 q < 256) ∧ (∀ q, u.2.2.2.2.1 q < 256) ∧ cu_RX u.1 u.2.1 u.2.2.1 S
theorem cu_put_succ {α : Type} (F G : Nat → α) (a n : Nat) : va_up (fb_put F G a n) (a + n) (G n) = fb_put F G a (n + 1) := by
  funext k
  by_cases h : k = a + n
  · subst h
    simp [va_up, fb_put]
  · by_cases h1 : a ≤ k ∧ k < a + n
    · have h2 : a ≤ k ∧ k < a + (n + 1) := by omega
      simp only [va_up, fb_put, if_neg h, if_pos h1, if_pos h2]
    · have h2 : ¬ (a ≤ k ∧ k < a + (n + 1)) := by omega
      simp only [va_up, fb_put, if_neg h, if_neg h1, if_neg h2]
theorem cu_put_lt {F G : Nat → Nat} {a n B : Nat} (hF : ∀ q, F q < B) (hG : ∀ q, G q < B) : ∀ q, fb_put F G a n q < B := by
  intro q
  unfold fb_put
  split
  · exact hG _
  · exact hF _
/-- a set of at most forty stretches takes its place -/
theorem cu_RX_set {C F L MF ML : Nat → Nat} {S : Nat → Nat → Bool} {d mc : Nat} {T : Nat → Bool} (hR : cu_RX C F L S) (hd : d < 4) (hmc : mc ≤ 40) (hT : cu_Iv mc MF ML T) : cu_RX (va_up C d mc) (fb_put F MF (40 * d) mc) (fb_put L ML (40 * d) mc) (fun q => if q = d then T else S q) := by
  intro a ha
  by_cases q : a = d
  · subst q
    rw [va_up_self]
    dsimp only
    rw [if_pos rfl]
    refine ⟨hmc, hT.congF (fun j hj => ?_) (fun j hj => ?_)⟩
    · rw [fb_put_in (by omega) (by omega)]
      congr 1
      omega
    · rw [fb_put_in (by omega) (by omega)]
      congr 1
      omega
  · obtain ⟨h1, h2⟩ := hR a ha
    rw [va_up_ne _ _ q]
    dsimp only
    rw [if_neg q]
    refine ⟨h1, h2.congF (fun j hj => ?_) (fun j hj => ?_)⟩
    · exact fb_put_out (by omega)
    · exact fb_put_out (by omega)
theorem cu_op_const {how : Nat} {A B : Nat → Bool} {n k : Nat} (h1 : A n = A k) (h2 : B n = B k) : cu_op how A B n = cu_op how A B k := by
  simp only [cu_op, h1, h2]
/-- how many stretches the set being made has -/
theorem cu_made_le {kA kB mc how at_ : Nat} {FA LA FB LB MF ML : Nat → Nat} {A B : Nat → Bool} (hA : cu_Iv kA FA LA A) (hB : cu_Iv kB FB LB B) (hat : at_ ≤ 256) (hM : cu_Iv mc MF ML (cu_to (cu_op how A B) at_)) : mc ≤ kA + kB + 1 := by
  rw [← hM.runs, cu_to_runs hat]
  exact cu_op_runs hA hB how at_ hat
theorem cu_keep_yes {S : Nat → Nat → Bool} {d mc : Nat} {T : Nat → Bool} {MF ML : Nat → Nat} (hT : cu_Iv mc MF ML T) (h : mc ≤ 40) : cu_keep S d T = (nI (fb_ct T 256), fun q => if q = d then T else S q) := by
  rw [cu_keep, hT.runs, if_pos h]
theorem cu_keep_no {S : Nat → Nat → Bool} {d mc : Nat} {T : Nat → Bool} {MF ML : Nat → Nat} (hT : cu_Iv mc MF ML T) (h : ¬ mc ≤ 40) : cu_keep S d T = (-2, S) := by
  rw [cu_keep, hT.runs, if_neg h]
theorem cu_comb_ok {S : Nat → Nat → Bool} {d how a b : Nat} (hd : d < 4) (hh : how ≤ 2) (ha : a < 4) (hb : b < 4) : cu_comb S (nI d) (nI how) (nI a) (nI b) = cu_keep S d (cu_op how (S a) (S b)) := by
  rw [cu_comb, if_pos ⟨cu_ok_nI hd, cu_ok_nI ha, cu_ok_nI hb, cu_nI_in hh (by omega)⟩, nI_clamp (by omega), nI_clamp (by omega), nI_clamp (by omega), nI_clamp (by omega)]
theorem cu_chg_ok {S : Nat → Nat → Bool} {a q : Nat} {b : Bool} (ha : a < 4) (hq : q < 2 ^ 31) (h : cu_sqok q) : cu_chg S (nI a) (nI q) b = cu_keep S a (cu_put (S a) (q / 1024) (q / 32 % 32) (q % 32) b) := by
  unfold cu_chg
  rw [nI_clamp hq, nI_clamp (show a < 2 ^ 31 by omega), if_pos ⟨cu_ok_nI ha, nI_pos hq, h⟩]
theorem cu_chg_no {S : Nat → Nat → Bool} {sv qv : Int32} {b : Bool} (h : ¬ (cu_ok sv = true ∧ ¬ qv < 0 ∧ cu_sqok qv.toNatClampNeg)) : cu_chg S sv qv b = (-1, S) := by
  unfold cu_chg
  rw [if_neg h]
theorem cu_chg_nq {S : Nat → Nat → Bool} {sv : Int32} {q : Nat} {b : Bool} (hq : q < 2 ^ 31) (h : ¬ cu_sqok q) : cu_chg S sv (nI q) b = (-1, S) := cu_chg_no (fun g => h (by have := g.2.2; rw [nI_clamp hq] at this; exact this))
theorem cu_and31 (n : Nat) : n &&& 31 = n % 32 := Nat.and_two_pow_sub_one_eq_mod n 5
theorem cu_sd_sh {v : Nat} (hv : v ≤ 4) : 1 * 2 ^ (4 - v) = cu_sd v ∧ cu_sd v * cu_sd v = cu_sz v ∧ 2 ^ v ≤ 16 := by rcases cu_lev5 hv with rfl | rfl | rfl | rfl | rfl <;> decide
theorem cu_sd_lt {v u : Nat} (hv : v ≤ 4) (hu : u < 2 ^ v) : u * cu_sd v < 16 := by
  rcases cu_lev5 hv with rfl | rfl | rfl | rfl | rfl <;> simp only [cu_sd] <;> omega
theorem cu_down0 : ∀ v, v < 5 → ∀ n, n < 256 → nI n &&& -(nI (cu_sz v)) = nI (n / cu_sz v * cu_sz v) := by decide +kernel
theorem cu_blk_num {v u w : Nat} (hv : v ≤ 4) (hu : u < 2 ^ v) (hw : w < 2 ^ v) : nI (cu_num (u * cu_sd v) (w * cu_sd v)) &&& -(nI (cu_sz v)) = nI (cu_blk v u w * cu_sz v) := by
  have h1 := cu_sd_lt hv hu
  have h2 := cu_sd_lt hv hw
  rw [cu_down0 v (by omega) _ (cu_num_lt h1 h2), cu_blk, cu_hn_xy h1 h2]
theorem cu_blk_lt {v u w : Nat} (hv : v ≤ 4) (hu : u < 2 ^ v) (hw : w < 2 ^ v) : cu_blk v u w * cu_sz v + cu_sz v ≤ 256 := by
  have a := (cu_blk_inv0 v (by omega) u hu w hw).2
  generalize cu_blk v u w = z at a ⊢
  rcases cu_lev5 hv with rfl | rfl | rfl | rfl | rfl <;> simp only [cu_sz] <;> omega
/-- a square as one stretch -/
def cu_ivl (fr sz n : Nat) : Bool := decide (fr ≤ n) && decide (n ≤ fr + sz - 1)
theorem cu_ivl_blk {v b n : Nat} (hv : v ≤ 4) : cu_ivl (b * cu_sz v) (cu_sz v) n = decide (n / cu_sz v = b) := by
  unfold cu_ivl
  rw [← Bool.decide_and]
  apply decide_eq_decide.mpr
  rcases cu_lev5 hv with rfl | rfl | rfl | rfl | rfl <;> simp only [cu_sz] <;> omega
theorem cu_op_put {A : Nat → Bool} {v u w : Nat} (hv : v ≤ 4) (b : Bool) : cu_op (if b = true then 1 else 2) A (cu_ivl (cu_blk v u w * cu_sz v) (cu_sz v)) = cu_put A v u w b := by
  funext n
  unfold cu_op cu_put
  rw [cu_ivl_blk hv]
  by_cases h : n / cu_sz v = cu_blk v u w <;> cases b <;> simp [h]
theorem cu_ivl_Iv {F L : Nat → Nat} {fr sz : Nat} (h1 : F 160 = fr) (h2 : L 160 = fr + sz - 1) (hs : 0 < sz) (h3 : fr + sz ≤ 256) : cu_Iv 1 (fun j => F (40 * 4 + j)) (fun j => L (40 * 4 + j)) (cu_ivl fr sz) := by
  refine ⟨fun j hj => ?_, fun j hj => absurd hj (by omega), fun n => ?_⟩
  · have e : j = 0 := by omega
    subst e
    show F 160 ≤ L 160 ∧ L 160 < 256
    omega
  · unfold cu_ivl
    simp only [Bool.and_eq_true, decide_eq_true_eq]
    constructor
    · rintro ⟨a, b⟩
      exact ⟨0, by omega, by show F 160 ≤ n; omega, by show n ≤ L 160; omega⟩
    · rintro ⟨j, hj, a, b⟩
      have e : j = 0 := by omega
      subst e
      have a2 : F 160 ≤ n := a
      have b2 : n ≤ L 160 := b
      omega
/-- the fifth set doesn't touch the four -/
theorem cu_RX_5 {C F L : Nat → Nat} {S : Nat → Nat → Bool} {c f l : Nat} (hR : cu_RX C F L S) : cu_RX (va_up C 4 c) (va_up F 160 f) (va_up L 160 l) S := by
  intro a ha
  obtain ⟨h1, h2⟩ := hR a ha
  rw [va_up_ne _ _ (show a ≠ 4 by omega)]
  exact ⟨h1, h2.congF (fun j hj => va_up_ne _ _ (by omega)) (fun j hj => va_up_ne _ _ (by omega))⟩
end
section
/-! plain law, part 7: what the methods of CellUnionModel need -/
def cu_MOK (u : MU) (S : Nat → Nat → Bool) : Prop := (∀ q, u.1 q < 256) ∧ (∀ q, u.2.1 q < 256) ∧ cu_RM u.1 u.2.1 u.2.2.1 S
theorem cu_fill_succ {α : Type} (G F : Nat → α) (n : Nat) : va_up (fa_fill G F n) n (G n) = fa_fill G F (n + 1) := by
  funext k
  by_cases h : k = n
  · subst h
    simp [va_up, fa_fill]
  · by_cases h1 : k < n
    · have h2 : k < n + 1 := by omega
      simp only [va_up, fa_fill, if_neg h, if_pos h1, if_pos h2]
    · have h2 : ¬ k < n + 1 := by omega
      simp only [va_up, fa_fill, if_neg h, if_neg h1, if_neg h2]
/-- at the cell of a curve number -/
theorem cu_RM.at {Nm Pl : Nat → Nat} {Mk : Nat → Bool} {S : Nat → Nat → Bool} (h : cu_RM Nm Pl Mk S) {a n : Nat} (ha : a < 4) (hn : n < 256) : Mk (256 * a + Pl n) = S a n ∧ cu_hn (Pl n) = n ∧ Pl n < 256 := by
  have e := cu_hn_hp n hn
  rw [h.2.1 n hn]
  exact ⟨by rw [h.2.2 a ha _ e.2, e.1], e.1, e.2⟩
theorem cu_st_yes0 {T : Nat → Bool} {k : Nat} (h : T k = true) (hk : k = 0) : cu_st T k = true := by
  unfold cu_st
  rw [h, hk]
  rfl
theorem cu_st_yes1 {T : Nat → Bool} {k : Nat} (h : T k = true) (h2 : T (k - 1) = false) : cu_st T k = true := by
  unfold cu_st
  rw [h, h2]
  simp
theorem cu_st_no1 {T : Nat → Bool} {k : Nat} (h2 : T (k - 1) = true) (hk : 0 < k) : cu_st T k = false := by
  unfold cu_st
  rw [h2, show (k == 0) = false by rw [beq_eq_false_iff_ne]; omega]
  simp
/-- a set's marks take another's place -/
theorem cu_RM_set {Nm Pl : Nat → Nat} {Mk Th : Nat → Bool} {S : Nat → Nat → Bool} {d : Nat} {T : Nat → Bool} (h : cu_RM Nm Pl Mk S) (_hd : d < 4) (hT : ∀ c, c < 256 → Th c = T (cu_hn c)) : cu_RM Nm Pl (fb_put Mk Th (256 * d) 256) (fun q => if q = d then T else S q) := by
  refine ⟨h.1, h.2.1, fun a ha c hc => ?_⟩
  by_cases q : a = d
  · subst q
    dsimp only
    rw [if_pos rfl, fb_put_in (by omega) (by omega), ← hT c hc]
    congr 1
    omega
  · dsimp only
    rw [if_neg q, fb_put_out (by omega), h.2.2 a ha c hc]
def cu_sqv (Mk : Nat → Bool) (a v u w : Nat) (bb : Bool) (c : Nat) : Bool := if cu_isq c v u w = true then bb else Mk (256 * a + c)
theorem cu_sqv_put {Nm Pl : Nat → Nat} {Mk : Nat → Bool} {S : Nat → Nat → Bool} (h : cu_RM Nm Pl Mk S) {a v u w c : Nat} {bb : Bool} (ha : a < 4) (hv : v ≤ 4) (hu : u < 2 ^ v) (hw : w < 2 ^ v) (hc : c < 256) : cu_sqv Mk a v u w bb c = cu_put (S a) v u w bb (cu_hn c) := by
  unfold cu_sqv cu_put
  rw [h.2.2 a ha c hc]
  by_cases q : cu_isq c v u w = true
  · rw [if_pos q, if_pos ((cu_isq_blk hv hc hu hw).mp q)]
  · rw [if_neg q, if_neg (fun r => q ((cu_isq_blk hv hc hu hw).mpr r))]
theorem cu_and7 : ∀ v, v < 5 → v &&& 7 = v := by decide +kernel
/-- over cells: a square is whole, or is met -/
def cu_whc (Mk : Nat → Bool) (a v u w : Nat) : Bool := (List.range 256).all (fun c => !cu_isq c v u w || Mk (256 * a + c))
theorem cu_whc_iff {Mk : Nat → Bool} {a v u w : Nat} : cu_whc Mk a v u w = true ↔ ∀ c, c < 256 → cu_isq c v u w = true → Mk (256 * a + c) = true := by
  unfold cu_whc
  simp only [List.all_eq_true, List.mem_range, Bool.or_eq_true, Bool.not_eq_true']
  constructor
  · intro h c hc q
    rcases h c hc with r | r
    · rw [q] at r; exact absurd r (by decide)
    · exact r
  · intro h c hc
    cases q : cu_isq c v u w with
    | false => exact Or.inl rfl
    | true => exact Or.inr (h c hc q)
theorem cu_whc_f {Mk : Nat → Bool} {a v u w c : Nat} (hc : c < 256) (h1 : cu_isq c v u w = true) (h2 : Mk (256 * a + c) = false) : cu_whc Mk a v u w = false := by
  cases q : cu_whc Mk a v u w with
  | false => rfl
  | true =>
    have := cu_whc_iff.mp q c hc h1
    rw [h2] at this
    exact absurd this (by decide)
theorem cu_whc_wh {Nm Pl : Nat → Nat} {Mk : Nat → Bool} {S : Nat → Nat → Bool} (h : cu_RM Nm Pl Mk S) {a v c : Nat} (ha : a < 4) (hv : v ≤ 4) (hc : c < 256) : cu_whc Mk a v (c / 16 / cu_sd v) (c % 16 / cu_sd v) = cu_wh (S a) v (cu_hn c) := by
  have e := cu_wh_cells (S := S a) (M := fun c => Mk (256 * a + c)) (v := v) (c := c) (h.2.2 a ha) hv hc
  cases q : cu_wh (S a) v (cu_hn c) with
  | true => exact cu_whc_iff.mpr (e.mp q)
  | false =>
    cases r : cu_whc Mk a v (c / 16 / cu_sd v) (c % 16 / cu_sd v) with
    | false => rfl
    | true =>
      rw [e.mpr (cu_whc_iff.mp r)] at q
      exact absurd q (by decide)
def cu_smc (Mk : Nat → Bool) (a v u w : Nat) : Bool := (List.range 256).any (fun c => Mk (256 * a + c) && cu_isq c v u w)
theorem cu_smc_iff {Mk : Nat → Bool} {a v u w : Nat} : cu_smc Mk a v u w = true ↔ ∃ c, c < 256 ∧ Mk (256 * a + c) = true ∧ cu_isq c v u w = true := by
  unfold cu_smc
  simp only [List.any_eq_true, List.mem_range, Bool.and_eq_true]
theorem cu_smc_f {Mk : Nat → Bool} {a v u w : Nat} (h : ∀ c, c < 256 → Mk (256 * a + c) = true → cu_isq c v u w = true → False) : cu_smc Mk a v u w = false := by
  cases q : cu_smc Mk a v u w with
  | false => rfl
  | true =>
    obtain ⟨c, h1, h2, h3⟩ := cu_smc_iff.mp q
    exact absurd (h c h1 h2 h3) id
theorem cu_smc_tb {Nm Pl : Nat → Nat} {Mk : Nat → Bool} {S : Nat → Nat → Bool} (h : cu_RM Nm Pl Mk S) {a v u w : Nat} (ha : a < 4) (hv : v ≤ 4) (hu : u < 2 ^ v) (hw : w < 2 ^ v) : cu_smc Mk a v u w = cu_tb (S a) (cu_sz v) (cu_blk v u w) := by
  have e := cu_tb_cells (S := S a) (M := fun c => Mk (256 * a + c)) (v := v) (u := u) (w := w) (h.2.2 a ha) hv hu hw
  cases q : cu_tb (S a) (cu_sz v) (cu_blk v u w) with
  | true => exact cu_smc_iff.mpr (e.mp q)
  | false =>
    cases r : cu_smc Mk a v u w with
    | false => rfl
    | true =>
      rw [e.mpr (cu_smc_iff.mp r)] at q
      exact absurd q (by decide)
/-- the least number of a square -/
theorem cu_least {v c least : Nat} (hv : v ≤ 4) (hc : c < 256) (h1 : cu_hn c / cu_sz v * cu_sz v ≤ least) (h2 : ∀ b, b < 256 → cu_isq b v (c / 16 / cu_sd v) (c % 16 / cu_sd v) = true → least ≤ cu_hn b) : least = cu_hn c / cu_sz v * cu_sz v := by
  have hn := (cu_hp_hn c hc).2
  have hb : cu_hn c / cu_sz v * cu_sz v < 256 := Nat.lt_of_le_of_lt (Nat.div_mul_le_self _ _) hn
  have e := cu_hn_hp _ hb
  have g := h2 _ e.2 ((cu_isq_same hv hc e.2).mpr (by
    rw [e.1]
    generalize cu_hn c = n
    rcases cu_lev5 hv with rfl | rfl | rfl | rfl | rfl <;> simp only [cu_sz] <;> omega))
  rw [e.1] at g
  omega
theorem cu_least_le {v c b : Nat} (hv : v ≤ 4) (hc : c < 256) (hb : b < 256) (h : cu_isq b v (c / 16 / cu_sd v) (c % 16 / cu_sd v) = true) : cu_hn c / cu_sz v * cu_sz v ≤ cu_hn b := by
  have e := (cu_isq_same hv hc hb).mp h
  rw [← e]
  exact Nat.div_mul_le_self _ _
theorem cu_ps_yes {S : Nat → Bool} {k : Nat} (h : S k = true) (h2 : k / cu_sz (cu_lev S k) * cu_sz (cu_lev S k) = k) : cu_ps S k = true := by
  unfold cu_ps
  have : k % cu_sz (cu_lev S k) = 0 := by
    have g := Nat.mul_mod_left (k / cu_sz (cu_lev S k)) (cu_sz (cu_lev S k))
    rw [h2] at g
    exact g
  rw [h, this]
  rfl
theorem cu_ps_no {S : Nat → Bool} {k : Nat} (h2 : k / cu_sz (cu_lev S k) * cu_sz (cu_lev S k) ≠ k) : cu_ps S k = false := by
  unfold cu_ps
  have : (k % cu_sz (cu_lev S k) == 0) = false := by
    rw [beq_eq_false_iff_ne]
    intro q
    exact h2 (Nat.div_mul_cancel (Nat.dvd_of_mod_eq_zero q))
  rw [this]
  simp
end
section
set_option maxHeartbeats 4000000 in
set_option maxRecDepth 100000 in
/-- isSet -/
theorem mX0_isSet (l : Launch) (h0 : Nat) (sv : Int32) : MetR l yX0_isSet cX0_isSet 2 .boolean rX0_isSet [.ref h0, .int sv] (fun _ => True) (nI (cu_ok sv).toNat) := by
  refine metR_of (by decide) (Nat.le_of_ble_eq_true rfl) (nb_narB _) ?_
  intro p e s m args below meth c H Q S hH hB kret ls hl
  have S : CallFix p m c cX0_isSet 2 s args lw_all RX0 := S
  have hx := S.1
  have hb := S.2.1
  have hts := S.2.2.2.2
  have hl : lv_has ls 2 [(0, .ref h0), (1, .int sv)] := hl
  have k13 : cu_ok sv = false → W p l e rX0_isSet s m args below meth c H [] 0 0 Q (F0 m 13 ls []) := by
    intro hq
    refine lv_iconst (v := nI 0) hx hb dX0_isSet_13 (by decide) ?_
    exact kret 14 ls (nI 0) dX0_isSet_14 (by rw [hq]; rfl)
  refine lv_iload_n hx hb dX0_isSet_0 rfl (lv_at hl 1 rfl) ?_
  refine lv_if_lt (tgt := 13) hx hb dX0_isSet_1 (by decide) (fun c1 => ?_) (fun c1 => ?_)
  · exact k13 (by simp [cu_ok, c1])
  · refine lv_iload_n hx hb dX0_isSet_4 rfl (lv_at hl 1 rfl) ?_
    refine lv_iconst (v := nI 3) hx hb dX0_isSet_5 (by decide) ?_
    refine lv_icmp_gt (tgt := 13) hx hb dX0_isSet_6 (by decide) (fun c2 => ?_) (fun c2 => ?_)
    · exact k13 (by simp [cu_ok, c2])
    · refine lv_iconst (v := nI 1) hx hb dX0_isSet_9 (by decide) ?_
      refine lv_goto (tgt := 14) hx hb dX0_isSet_10 (by decide) ?_
      exact kret 14 ls (nI 1) dX0_isSet_14 (by rw [show cu_ok sv = true by simp [cu_ok, c1, c2]]; rfl)
set_option maxHeartbeats 4000000 in
set_option maxRecDepth 100000 in
/-- isSet -/
theorem mX1_isSet (l : Launch) (h0 : Nat) (sv : Int32) : MetR l yX1_isSet cX1_isSet 2 .boolean rX1_isSet [.ref h0, .int sv] (fun _ => True) (nI (cu_ok sv).toNat) := by
  refine metR_of (by decide) (Nat.le_of_ble_eq_true rfl) (nb_narB _) ?_
  intro p e s m args below meth c H Q S hH hB kret ls hl
  have S : CallFix p m c cX1_isSet 2 s args lw_all RX1 := S
  have hx := S.1
  have hb := S.2.1
  have hts := S.2.2.2.2
  have hl : lv_has ls 2 [(0, .ref h0), (1, .int sv)] := hl
  have k13 : cu_ok sv = false → W p l e rX1_isSet s m args below meth c H [] 0 0 Q (F0 m 13 ls []) := by
    intro hq
    refine lv_iconst (v := nI 0) hx hb dX1_isSet_13 (by decide) ?_
    exact kret 14 ls (nI 0) dX1_isSet_14 (by rw [hq]; rfl)
  refine lv_iload_n hx hb dX1_isSet_0 rfl (lv_at hl 1 rfl) ?_
  refine lv_if_lt (tgt := 13) hx hb dX1_isSet_1 (by decide) (fun c1 => ?_) (fun c1 => ?_)
  · exact k13 (by simp [cu_ok, c1])
  · refine lv_iload_n hx hb dX1_isSet_4 rfl (lv_at hl 1 rfl) ?_
    refine lv_iconst (v := nI 3) hx hb dX1_isSet_5 (by decide) ?_
    refine lv_icmp_gt (tgt := 13) hx hb dX1_isSet_6 (by decide) (fun c2 => ?_) (fun c2 => ?_)
    · exact k13 (by simp [cu_ok, c2])
    · refine lv_iconst (v := nI 1) hx hb dX1_isSet_9 (by decide) ?_
      refine lv_goto (tgt := 14) hx hb dX1_isSet_10 (by decide) ?_
      exact kret 14 ls (nI 1) dX1_isSet_14 (by rw [show cu_ok sv = true by simp [cu_ok, c1, c2]]; rfl)
set_option maxHeartbeats 4000000 in
set_option maxRecDepth 100000 in
/-- isCell -/
theorem mX0_isCell (l : Launch) (h0 : Nat) (xv yv : Int32) : MetR l yX0_isCell cX0_isCell 3 .boolean rX0_isCell [.ref h0, .int xv, .int yv] (fun _ => True) (nI (cu_cell xv yv).toNat) := by
  refine metR_of (by decide) (Nat.le_of_ble_eq_true rfl) (nb_narB _) ?_
  intro p e s m args below meth c H Q S hH hB kret ls hl
  have S : CallFix p m c cX0_isCell 3 s args lw_all RX0 := S
  have hx := S.1
  have hb := S.2.1
  have hts := S.2.2.2.2
  have hl : lv_has ls 3 [(0, .ref h0), (1, .int xv), (2, .int yv)] := hl
  have k24 : cu_cell xv yv = false → W p l e rX0_isCell s m args below meth c H [] 0 0 Q (F0 m 24 ls []) := by
    intro hq
    refine lv_iconst (v := nI 0) hx hb dX0_isCell_24 (by decide) ?_
    exact kret 25 ls (nI 0) dX0_isCell_25 (by rw [hq]; rfl)
  refine lv_iload_n hx hb dX0_isCell_0 rfl (lv_at hl 1 rfl) ?_
  refine lv_if_lt (tgt := 24) hx hb dX0_isCell_1 (by decide) (fun c1 => ?_) (fun c1 => ?_)
  · exact k24 (by simp [cu_cell, c1])
  · refine lv_iload_n hx hb dX0_isCell_4 rfl (lv_at hl 1 rfl) ?_
    refine lv_bipush (v := nI 15) hx hb dX0_isCell_5 (by decide) ?_
    refine lv_icmp_gt (tgt := 24) hx hb dX0_isCell_7 (by decide) (fun c2 => ?_) (fun c2 => ?_)
    · exact k24 (by simp [cu_cell, c2])
    · refine lv_iload_n hx hb dX0_isCell_10 rfl (lv_at hl 2 rfl) ?_
      refine lv_if_lt (tgt := 24) hx hb dX0_isCell_11 (by decide) (fun c3 => ?_) (fun c3 => ?_)
      · exact k24 (by simp [cu_cell, c3])
      · refine lv_iload_n hx hb dX0_isCell_14 rfl (lv_at hl 2 rfl) ?_
        refine lv_bipush (v := nI 15) hx hb dX0_isCell_15 (by decide) ?_
        refine lv_icmp_gt (tgt := 24) hx hb dX0_isCell_17 (by decide) (fun c4 => ?_) (fun c4 => ?_)
        · exact k24 (by simp [cu_cell, c4])
        · refine lv_iconst (v := nI 1) hx hb dX0_isCell_20 (by decide) ?_
          refine lv_goto (tgt := 25) hx hb dX0_isCell_21 (by decide) ?_
          exact kret 25 ls (nI 1) dX0_isCell_25 (by rw [show cu_cell xv yv = true by simp [cu_cell, c1, c2, c3, c4]]; rfl)
set_option maxHeartbeats 4000000 in
set_option maxRecDepth 100000 in
/-- isCell -/
theorem mX1_isCell (l : Launch) (h0 : Nat) (xv yv : Int32) : MetR l yX1_isCell cX1_isCell 3 .boolean rX1_isCell [.ref h0, .int xv, .int yv] (fun _ => True) (nI (cu_cell xv yv).toNat) := by
  refine metR_of (by decide) (Nat.le_of_ble_eq_true rfl) (nb_narB _) ?_
  intro p e s m args below meth c H Q S hH hB kret ls hl
  have S : CallFix p m c cX1_isCell 3 s args lw_all RX1 := S
  have hx := S.1
  have hb := S.2.1
  have hts := S.2.2.2.2
  have hl : lv_has ls 3 [(0, .ref h0), (1, .int xv), (2, .int yv)] := hl
  have k24 : cu_cell xv yv = false → W p l e rX1_isCell s m args below meth c H [] 0 0 Q (F0 m 24 ls []) := by
    intro hq
    refine lv_iconst (v := nI 0) hx hb dX1_isCell_24 (by decide) ?_
    exact kret 25 ls (nI 0) dX1_isCell_25 (by rw [hq]; rfl)
  refine lv_iload_n hx hb dX1_isCell_0 rfl (lv_at hl 1 rfl) ?_
  refine lv_if_lt (tgt := 24) hx hb dX1_isCell_1 (by decide) (fun c1 => ?_) (fun c1 => ?_)
  · exact k24 (by simp [cu_cell, c1])
  · refine lv_iload_n hx hb dX1_isCell_4 rfl (lv_at hl 1 rfl) ?_
    refine lv_bipush (v := nI 15) hx hb dX1_isCell_5 (by decide) ?_
    refine lv_icmp_gt (tgt := 24) hx hb dX1_isCell_7 (by decide) (fun c2 => ?_) (fun c2 => ?_)
    · exact k24 (by simp [cu_cell, c2])
    · refine lv_iload_n hx hb dX1_isCell_10 rfl (lv_at hl 2 rfl) ?_
      refine lv_if_lt (tgt := 24) hx hb dX1_isCell_11 (by decide) (fun c3 => ?_) (fun c3 => ?_)
      · exact k24 (by simp [cu_cell, c3])
      · refine lv_iload_n hx hb dX1_isCell_14 rfl (lv_at hl 2 rfl) ?_
        refine lv_bipush (v := nI 15) hx hb dX1_isCell_15 (by decide) ?_
        refine lv_icmp_gt (tgt := 24) hx hb dX1_isCell_17 (by decide) (fun c4 => ?_) (fun c4 => ?_)
        · exact k24 (by simp [cu_cell, c4])
        · refine lv_iconst (v := nI 1) hx hb dX1_isCell_20 (by decide) ?_
          refine lv_goto (tgt := 25) hx hb dX1_isCell_21 (by decide) ?_
          exact kret 25 ls (nI 1) dX1_isCell_25 (by rw [show cu_cell xv yv = true by simp [cu_cell, c1, c2, c3, c4]]; rfl)
set_option maxHeartbeats 4000000 in
set_option maxRecDepth 100000 in
/-- largestAt -/
theorem mX0_largestAt (l : Launch) (h0 at_ bd : Nat) (h1 : at_ < 256) (h2 : bd < 256) : MetR l yX0_largestAt cX0_largestAt 4 .int rX0_largestAt [.ref h0, .int (nI at_), .int (nI bd)] (fun _ => True) (nI (cu_lgo 4 1 at_ bd)) := by
  refine metR_of (by decide) (Nat.le_of_ble_eq_true rfl) (nb_narI _) ?_
  intro p e s m args below meth c H Q S hH hB kret ls hl
  have S : CallFix p m c cX0_largestAt 4 s args lw_all RX0 := S
  have hx := S.1
  have hb := S.2.1
  have hts := S.2.2.2.2
  have hl : lv_has ls 4 [(0, .ref h0), (1, .int (nI at_)), (2, .int (nI bd))] := hl
  have loop : ∀ (n : Nat) (f z : Nat), z * 4 ^ f = 256 → cu_lgo f z at_ bd = cu_lgo 4 1 at_ bd → f < n → ∀ ls : Array Slot, lv_has ls 4 [(0, .ref h0), (1, .int (nI at_)), (2, .int (nI bd)), (3, .int (nI z))] → W p l e rX0_largestAt s m args below meth c H [] 0 0 Q (F0 m 2 ls []) := by
    intro n
    induction n with
    | zero => intro f z hz hg hm; exact absurd hm (Nat.not_lt_zero _)
    | succ n ih =>
      intro f z hz hg hm ls hl
      have hz0 : 0 < z := Nat.pos_of_ne_zero (fun q => by rw [q] at hz; omega)
      have hz1 : z ≤ 256 := by rw [← hz]; exact Nat.le_mul_of_pos_right _ (Nat.pow_pos (by omega))
      refine lv_iload_n hx hb dX0_largestAt_2 rfl (lv_at hl 3 rfl) ?_
      refine lv_sipush (v := nI 256) hx hb dX0_largestAt_3 (by decide) ?_
      refine nb_icmp_ge (tgt := 35) hx hb dX0_largestAt_6 (by decide) (by omega) (by omega) (fun c1 => ?_) (fun c1 => ?_)
      · refine lv_iload_n hx hb dX0_largestAt_35 rfl (lv_at hl 3 rfl) ?_
        exact kret 36 ls (nI z) dX0_largestAt_36 (by rw [← hg]; cases f with | zero => rfl | succ f => rw [cu_lgo, if_neg (fun q => by omega)])
      · obtain ⟨f, rfl⟩ : ∃ k, f = k + 1 := by
          cases f with
          | zero => exfalso; omega
          | succ f => exact ⟨f, rfl⟩
        refine lv_iload_n hx hb dX0_largestAt_9 rfl (lv_at hl 1 rfl) ?_
        refine lv_iconst (v := nI 4) hx hb dX0_largestAt_10 (by decide) ?_
        refine lv_iload_n hx hb dX0_largestAt_11 rfl (lv_at hl 3 rfl) ?_
        refine nb_imul hx hb dX0_largestAt_12 ?_
        refine nb_irem hx hb dX0_largestAt_13 (by omega) (by omega) (by omega) ?_
        refine nb_if_ne (tgt := 35) hx hb dX0_largestAt_14 (by decide) (Nat.lt_of_le_of_lt (Nat.mod_le _ _) (by omega)) (fun c2 => ?_) (fun c2 => ?_)
        · refine lv_iload_n hx hb dX0_largestAt_35 rfl (lv_at hl 3 rfl) ?_
          exact kret 36 ls (nI z) dX0_largestAt_36 (by rw [← hg, cu_lgo, if_neg (fun q => by omega)])
        · refine lv_iload_n hx hb dX0_largestAt_17 rfl (lv_at hl 1 rfl) ?_
          refine lv_iconst (v := nI 4) hx hb dX0_largestAt_18 (by decide) ?_
          refine lv_iload_n hx hb dX0_largestAt_19 rfl (lv_at hl 3 rfl) ?_
          refine nb_imul hx hb dX0_largestAt_20 ?_
          refine nb_iadd hx hb dX0_largestAt_21 ?_
          refine lv_iconst (v := nI 1) hx hb dX0_largestAt_22 (by decide) ?_
          refine nb_isub hx hb dX0_largestAt_23 (by omega) ?_
          refine lv_iload_n hx hb dX0_largestAt_24 rfl (lv_at hl 2 rfl) ?_
          refine nb_icmp_gt (tgt := 35) hx hb dX0_largestAt_25 (by decide) (by omega) (by omega) (fun c3 => ?_) (fun c3 => ?_)
          · refine lv_iload_n hx hb dX0_largestAt_35 rfl (lv_at hl 3 rfl) ?_
            exact kret 36 ls (nI z) dX0_largestAt_36 (by rw [← hg, cu_lgo, if_neg (fun q => by omega)])
          · refine lv_iload_n hx hb dX0_largestAt_28 rfl (lv_at hl 3 rfl) ?_
            refine lv_iconst (v := nI 4) hx hb dX0_largestAt_29 (by decide) ?_
            refine nb_imul hx hb dX0_largestAt_30 ?_
            refine nb_top (y := nI (4 * z)) (by rw [Nat.mul_comm]) ?_
            refine lv_istore_n (lv' := [(3, .int (nI (4 * z))), (0, .ref h0), (1, .int (nI at_)), (2, .int (nI bd))]) hx hb dX0_largestAt_31 rfl hl (by decide) rfl (fun ls hl => ?_)
            refine lv_goto (tgt := 2) hx hb dX0_largestAt_32 (by decide) ?_
            rw [cu_lgo, if_pos ⟨c1, c2, c3⟩] at hg
            exact ih f (4 * z) (by rw [← hz, Nat.pow_succ, Nat.mul_comm 4 z, Nat.mul_assoc, Nat.mul_comm 4]) hg (by omega) ls (lv_sub hl [1, 2, 3, 0] rfl)
  refine lv_iconst (v := nI 1) hx hb dX0_largestAt_0 (by decide) ?_
  refine lv_istore_n (lv' := [(3, .int (nI 1)), (0, .ref h0), (1, .int (nI at_)), (2, .int (nI bd))]) hx hb dX0_largestAt_1 rfl hl (by decide) rfl (fun ls hl => ?_)
  exact loop 5 4 1 (by decide) rfl (by omega) ls (lv_sub hl [1, 2, 3, 0] rfl)
set_option maxHeartbeats 4000000 in
set_option maxRecDepth 100000 in
/-- levelOf -/
theorem mX0_levelOf (l : Launch) (h0 v : Nat) (hv : v ≤ 4) : MetR l yX0_levelOf cX0_levelOf 4 .int rX0_levelOf [.ref h0, .int (nI (cu_sz v))] (fun _ => True) (nI v) := by
  refine metR_of (by decide) (Nat.le_of_ble_eq_true rfl) (nb_narI _) ?_
  intro p e s m args below meth c H Q S hH hB kret ls hl
  have S : CallFix p m c cX0_levelOf 4 s args lw_all RX0 := S
  have hx := S.1
  have hb := S.2.1
  have hts := S.2.2.2.2
  have hl : lv_has ls 4 [(0, .ref h0), (1, .int (nI (cu_sz v)))] := hl
  have loop : ∀ (n : Nat) (u : Nat), v ≤ u → u ≤ 4 → 4 - u < n → ∀ ls : Array Slot, lv_has ls 4 [(2, .int (nI (4 - (u - v)))), (3, .int (nI (cu_sz u)))] → W p l e rX0_levelOf s m args below meth c H [] 0 0 Q (F0 m 4 ls []) := by
    intro n
    induction n with
    | zero => intro u h1 h2 hm; exact absurd hm (Nat.not_lt_zero _)
    | succ n ih =>
      intro u h1 h2 hm ls hl
      have hz := cu_sz_1 h2
      refine lv_iload_n hx hb dX0_levelOf_4 rfl (lv_at hl 1 rfl) ?_
      refine lv_iconst (v := nI 1) hx hb dX0_levelOf_5 (by decide) ?_
      refine nb_icmp_le (tgt := 19) hx hb dX0_levelOf_6 (by decide) (by omega) (by omega) (fun c1 => ?_) (fun c1 => ?_)
      · have e := hz.1.mp c1
        refine lv_iload_n hx hb dX0_levelOf_19 rfl (lv_at hl 0 rfl) ?_
        exact kret 20 ls (nI (4 - (u - v))) dX0_levelOf_20 (by rw [show 4 - (u - v) = v by omega])
      · have e : u < 4 := by
          rcases Nat.lt_or_ge u 4 with q | q
          · exact q
          · exfalso; have := hz.1.mpr (by omega); omega
        refine lv_iload_n hx hb dX0_levelOf_9 rfl (lv_at hl 1 rfl) ?_
        refine lv_iconst (v := nI 4) hx hb dX0_levelOf_10 (by decide) ?_
        refine nb_idiv hx hb dX0_levelOf_11 (by omega) (by omega) (by omega) ?_
        refine nb_top (y := nI (cu_sz (u + 1))) (by rw [cu_sz_4 e]) ?_
        refine lv_istore_n (lv' := [(3, .int (nI (cu_sz (u + 1)))), (2, .int (nI (4 - (u - v))))]) hx hb dX0_levelOf_12 rfl hl (by decide) rfl (fun ls hl => ?_)
        refine lv_iinc (v := nI ((4 - (u - v)) - 1)) (lv' := [(2, .int (nI ((4 - (u - v)) - 1))), (3, .int (nI (cu_sz (u + 1))))]) hx hb dX0_levelOf_13 hl (k := 1) rfl (sb_m1 (by omega)) (by decide) rfl (fun ls hl => ?_)
        refine lv_goto (tgt := 4) hx hb dX0_levelOf_16 (by decide) ?_
        rw [show 4 - (u - v) - 1 = 4 - (u + 1 - v) by omega] at hl
        exact ih (u + 1) (by omega) (by omega) (by omega) ls (lv_sub hl [0, 1] rfl)
  refine lv_iconst (v := nI 4) hx hb dX0_levelOf_0 (by decide) ?_
  refine lv_istore_n (lv' := [(2, .int (nI 4)), (0, .ref h0), (1, .int (nI (cu_sz v)))]) hx hb dX0_levelOf_1 rfl hl (by decide) rfl (fun ls hl => ?_)
  refine lv_iload_n hx hb dX0_levelOf_2 rfl (lv_at hl 2 rfl) ?_
  refine lv_istore_n (lv' := [(3, .int (nI (cu_sz v))), (2, .int (nI 4)), (0, .ref h0), (1, .int (nI (cu_sz v)))]) hx hb dX0_levelOf_3 rfl hl (by decide) rfl (fun ls hl => ?_)
  have hl : lv_has ls 4 [(3, .int (nI (cu_sz v))), (2, .int (nI (4 - (v - v)))), (0, .ref h0), (1, .int (nI (cu_sz v)))] := by rw [Nat.sub_self]; exact hl
  exact loop 5 v (Nat.le_refl _) hv (by omega) ls (lv_sub hl [1, 0] rfl)
end
section
set_option maxHeartbeats 4000000 in
set_option maxRecDepth 100000 in
/-- numberOf -/
theorem mX0_numberOf (l : Launch) (h0 X Y : Nat) (hX : X < 16) (hY : Y < 16) : MetR l yX0_numberOf cX0_numberOf 10 .int rX0_numberOf [.ref h0, .int (nI X), .int (nI Y)] (fun _ => True) (nI (cu_num X Y)) := by
  refine metR_of (by decide) (Nat.le_of_ble_eq_true rfl) (nb_narI _) ?_
  intro p e s m args below meth c H Q S hH hB kret ls hl
  have S : CallFix p m c cX0_numberOf 10 s args lw_all RX0 := S
  have hx := S.1
  have hb := S.2.1
  have hts := S.2.2.2.2
  have hl : lv_has ls 10 [(0, .ref h0), (1, .int (nI X)), (2, .int (nI Y))] := hl
  have loop : ∀ (n : Nat) (t x y n_ : Nat), t ≤ 4 → x ≤ 15 → y ≤ 15 → cu_go t x y n_ = cu_num X Y → t < n → ∀ ls : Array Slot, lv_has ls 10 [(3, .int (nI x)), (4, .int (nI y)), (5, .int (nI n_)), (6, .int (nI (cu_w t)))] → W p l e rX0_numberOf s m args below meth c H [] 0 0 Q (F0 m 12 ls []) := by
    intro n
    induction n with
    | zero => intro t x y n_ ht hx1 hy1 hgo hm; exact absurd hm (Nat.not_lt_zero _)
    | succ n ih =>
      intro t x y n_ ht hx1 hy1 hgo hm ls hl
      have hw := cu_w_le ht
      refine lv_iload hx hb dX0_numberOf_12 (lv_at hl 3 rfl) ?_
      refine nb_if_le (tgt := 114) hx hb dX0_numberOf_14 (by decide) (by omega) (fun c0 => ?_) (fun c0 => ?_)
      · have e : t = 0 := by
          cases t with
          | zero => rfl
          | succ t => exact absurd c0 (Nat.ne_of_gt (Nat.two_pow_pos t))
        subst e
        refine lv_iload hx hb dX0_numberOf_114 (lv_at hl 2 rfl) ?_
        exact kret 116 ls (nI n_) dX0_numberOf_116 (by rw [← hgo]; rfl)
      · obtain ⟨t, rfl⟩ : ∃ k, t = k + 1 := by
          cases t with
          | zero => exact absurd c0 (Nat.lt_irrefl _)
          | succ t => exact ⟨t, rfl⟩
        have hl : lv_has ls 10 [(3, .int (nI x)), (4, .int (nI y)), (5, .int (nI n_)), (6, .int (nI (2 ^ t)))] := hl
        have hw : 2 ^ t ≤ 8 := hw
        have k29 : W p l e rX0_numberOf s m args below meth c H [] 0 0 Q (F0 m 29 ls [.int (nI (cu_bit x (2 ^ t)))]) := by
          refine lv_istore (lv' := [(7, .int (nI (cu_bit x (2 ^ t)))), (3, .int (nI x)), (4, .int (nI y)), (5, .int (nI n_)), (6, .int (nI (2 ^ t)))]) hx hb dX0_numberOf_29 hl (by decide) rfl (fun ls hl => ?_)
          have k44 : W p l e rX0_numberOf s m args below meth c H [] 0 0 Q (F0 m 44 ls [.int (nI (cu_bit y (2 ^ t)))]) := by
            have ha := cu_bit_01 x (2 ^ t)
            refine lv_istore (lv' := [(8, .int (nI (cu_bit y (2 ^ t)))), (7, .int (nI (cu_bit x (2 ^ t)))), (3, .int (nI x)), (4, .int (nI y)), (5, .int (nI n_)), (6, .int (nI (2 ^ t)))]) hx hb dX0_numberOf_44 hl (by decide) rfl (fun ls hl => ?_)
            refine lv_iconst (v := nI 4) hx hb dX0_numberOf_46 (by decide) ?_
            refine lv_iload hx hb dX0_numberOf_47 (lv_at hl 4 rfl) ?_
            refine nb_imul hx hb dX0_numberOf_49 ?_
            refine lv_iconst (v := nI 3) hx hb dX0_numberOf_50 (by decide) ?_
            refine lv_iload hx hb dX0_numberOf_51 (lv_at hl 1 rfl) ?_
            refine nb_imul hx hb dX0_numberOf_53 ?_
            refine lv_iload hx hb dX0_numberOf_54 (lv_at hl 0 rfl) ?_
            refine nb_ixor hx hb dX0_numberOf_56 ?_
            refine nb_iadd hx hb dX0_numberOf_57 ?_
            refine lv_istore (lv' := [(5, .int (nI ((4 * n_) + ((3 * (cu_bit x (2 ^ t))) ^^^ (cu_bit y (2 ^ t)))))), (8, .int (nI (cu_bit y (2 ^ t)))), (7, .int (nI (cu_bit x (2 ^ t)))), (3, .int (nI x)), (4, .int (nI y)), (6, .int (nI (2 ^ t)))]) hx hb dX0_numberOf_58 hl (by decide) rfl (fun ls hl => ?_)
            refine lv_iload hx hb dX0_numberOf_60 (lv_at hl 1 rfl) ?_
            refine lv_iconst (v := nI 1) hx hb dX0_numberOf_62 (by decide) ?_
            refine nb_icmp_ne (tgt := 69) hx hb dX0_numberOf_63 (by decide) (by have := cu_bit_01 y (2 ^ t); omega) (by omega) (fun cb => ?_) (fun cb => ?_)
            · refine lv_iload_n hx hb dX0_numberOf_69 rfl (lv_at hl 3 rfl) ?_
              refine lv_istore (lv' := [(9, .int (nI x)), (5, .int (nI ((4 * n_) + ((3 * (cu_bit x (2 ^ t))) ^^^ (cu_bit y (2 ^ t)))))), (8, .int (nI (cu_bit y (2 ^ t)))), (7, .int (nI (cu_bit x (2 ^ t)))), (3, .int (nI x)), (4, .int (nI y)), (6, .int (nI (2 ^ t)))]) hx hb dX0_numberOf_70 hl (by decide) rfl (fun ls hl => ?_)
              refine lv_iload hx hb dX0_numberOf_72 (lv_at hl 3 rfl) ?_
              refine nb_if_ne (tgt := 82) hx hb dX0_numberOf_74 (by decide) (by omega) (fun ca => ?_) (fun ca => ?_)
              · refine lv_bipush (v := nI 15) hx hb dX0_numberOf_82 (by decide) ?_
                refine lv_iload hx hb dX0_numberOf_84 (lv_at hl 5 rfl) ?_
                refine nb_isub hx hb dX0_numberOf_86 (by omega) ?_
                refine lv_istore_n (lv' := [(3, .int (nI (15 - y))), (9, .int (nI x)), (5, .int (nI ((4 * n_) + ((3 * (cu_bit x (2 ^ t))) ^^^ (cu_bit y (2 ^ t)))))), (8, .int (nI (cu_bit y (2 ^ t)))), (7, .int (nI (cu_bit x (2 ^ t)))), (4, .int (nI y)), (6, .int (nI (2 ^ t)))]) hx hb dX0_numberOf_87 rfl hl (by decide) rfl (fun ls hl => ?_)
                refine lv_iload hx hb dX0_numberOf_88 (lv_at hl 4 rfl) ?_
                refine nb_if_ne (tgt := 98) hx hb dX0_numberOf_90 (by decide) (by omega) (fun cc => ?_) (fun cc => ?_)
                · have ca1 : cu_bit x (2 ^ t) = 1 := by omega
                  refine lv_bipush (v := nI 15) hx hb dX0_numberOf_98 (by decide) ?_
                  refine lv_iload hx hb dX0_numberOf_100 (lv_at hl 1 rfl) ?_
                  refine nb_isub hx hb dX0_numberOf_102 (by omega) ?_
                  refine lv_istore (lv' := [(4, .int (nI (15 - x))), (3, .int (nI (15 - y))), (9, .int (nI x)), (5, .int (nI ((4 * n_) + ((3 * (cu_bit x (2 ^ t))) ^^^ (cu_bit y (2 ^ t)))))), (8, .int (nI (cu_bit y (2 ^ t)))), (7, .int (nI (cu_bit x (2 ^ t)))), (6, .int (nI (2 ^ t)))]) hx hb dX0_numberOf_103 hl (by decide) rfl (fun ls hl => ?_)
                  refine lv_iload hx hb dX0_numberOf_105 (lv_at hl 6 rfl) ?_
                  refine lv_iconst (v := nI 2) hx hb dX0_numberOf_107 (by decide) ?_
                  refine nb_idiv hx hb dX0_numberOf_108 (by omega) (by omega) (by omega) ?_
                  refine nb_top (y := nI (cu_w t)) (by rw [cu_w_half (by omega)]) ?_
                  refine lv_istore (lv' := [(6, .int (nI (cu_w t))), (4, .int (nI (15 - x))), (3, .int (nI (15 - y))), (9, .int (nI x)), (5, .int (nI ((4 * n_) + ((3 * (cu_bit x (2 ^ t))) ^^^ (cu_bit y (2 ^ t)))))), (8, .int (nI (cu_bit y (2 ^ t)))), (7, .int (nI (cu_bit x (2 ^ t))))]) hx hb dX0_numberOf_109 hl (by decide) rfl (fun ls hl => ?_)
                  refine lv_goto (tgt := 12) hx hb dX0_numberOf_111 (by decide) ?_
                  exact ih t (15 - y) (15 - x) ((4 * n_) + ((3 * (cu_bit x (2 ^ t))) ^^^ (cu_bit y (2 ^ t)))) (by omega) (by omega) (by omega) (by rw [← hgo]; simp [cu_go, cu_nx, cu_ny, cu_nn, cb, ca1]) (by omega) ls (lv_sub hl [2, 1, 4, 0] rfl)
                · exfalso; omega
              · refine lv_iload hx hb dX0_numberOf_77 (lv_at hl 5 rfl) ?_
                refine lv_goto (tgt := 87) hx hb dX0_numberOf_79 (by decide) ?_
                refine lv_istore_n (lv' := [(3, .int (nI y)), (9, .int (nI x)), (5, .int (nI ((4 * n_) + ((3 * (cu_bit x (2 ^ t))) ^^^ (cu_bit y (2 ^ t)))))), (8, .int (nI (cu_bit y (2 ^ t)))), (7, .int (nI (cu_bit x (2 ^ t)))), (4, .int (nI y)), (6, .int (nI (2 ^ t)))]) hx hb dX0_numberOf_87 rfl hl (by decide) rfl (fun ls hl => ?_)
                refine lv_iload hx hb dX0_numberOf_88 (lv_at hl 4 rfl) ?_
                refine nb_if_ne (tgt := 98) hx hb dX0_numberOf_90 (by decide) (by omega) (fun cc => ?_) (fun cc => ?_)
                · exfalso; omega
                · refine lv_iload hx hb dX0_numberOf_93 (lv_at hl 1 rfl) ?_
                  refine lv_goto (tgt := 103) hx hb dX0_numberOf_95 (by decide) ?_
                  refine lv_istore (lv' := [(4, .int (nI x)), (3, .int (nI y)), (9, .int (nI x)), (5, .int (nI ((4 * n_) + ((3 * (cu_bit x (2 ^ t))) ^^^ (cu_bit y (2 ^ t)))))), (8, .int (nI (cu_bit y (2 ^ t)))), (7, .int (nI (cu_bit x (2 ^ t)))), (6, .int (nI (2 ^ t)))]) hx hb dX0_numberOf_103 hl (by decide) rfl (fun ls hl => ?_)
                  refine lv_iload hx hb dX0_numberOf_105 (lv_at hl 6 rfl) ?_
                  refine lv_iconst (v := nI 2) hx hb dX0_numberOf_107 (by decide) ?_
                  refine nb_idiv hx hb dX0_numberOf_108 (by omega) (by omega) (by omega) ?_
                  refine nb_top (y := nI (cu_w t)) (by rw [cu_w_half (by omega)]) ?_
                  refine lv_istore (lv' := [(6, .int (nI (cu_w t))), (4, .int (nI x)), (3, .int (nI y)), (9, .int (nI x)), (5, .int (nI ((4 * n_) + ((3 * (cu_bit x (2 ^ t))) ^^^ (cu_bit y (2 ^ t)))))), (8, .int (nI (cu_bit y (2 ^ t)))), (7, .int (nI (cu_bit x (2 ^ t))))]) hx hb dX0_numberOf_109 hl (by decide) rfl (fun ls hl => ?_)
                  refine lv_goto (tgt := 12) hx hb dX0_numberOf_111 (by decide) ?_
                  exact ih t (y) (x) ((4 * n_) + ((3 * (cu_bit x (2 ^ t))) ^^^ (cu_bit y (2 ^ t)))) (by omega) (by omega) (by omega) (by rw [← hgo]; simp [cu_go, cu_nx, cu_ny, cu_nn, cb, ca]) (by omega) ls (lv_sub hl [2, 1, 4, 0] rfl)
            · refine lv_goto (tgt := 105) hx hb dX0_numberOf_66 (by decide) ?_
              refine lv_iload hx hb dX0_numberOf_105 (lv_at hl 5 rfl) ?_
              refine lv_iconst (v := nI 2) hx hb dX0_numberOf_107 (by decide) ?_
              refine nb_idiv hx hb dX0_numberOf_108 (by omega) (by omega) (by omega) ?_
              refine nb_top (y := nI (cu_w t)) (by rw [cu_w_half (by omega)]) ?_
              refine lv_istore (lv' := [(6, .int (nI (cu_w t))), (5, .int (nI ((4 * n_) + ((3 * (cu_bit x (2 ^ t))) ^^^ (cu_bit y (2 ^ t)))))), (8, .int (nI (cu_bit y (2 ^ t)))), (7, .int (nI (cu_bit x (2 ^ t)))), (3, .int (nI x)), (4, .int (nI y))]) hx hb dX0_numberOf_109 hl (by decide) rfl (fun ls hl => ?_)
              refine lv_goto (tgt := 12) hx hb dX0_numberOf_111 (by decide) ?_
              exact ih t (x) (y) ((4 * n_) + ((3 * (cu_bit x (2 ^ t))) ^^^ (cu_bit y (2 ^ t)))) (by omega) (by omega) (by omega) (by rw [← hgo]; simp [cu_go, cu_nx, cu_ny, cu_nn, cb]) (by omega) ls (lv_sub hl [4, 5, 1, 0] rfl)
          refine lv_iload hx hb dX0_numberOf_31 (lv_at hl 2 rfl) ?_
          refine lv_iload hx hb dX0_numberOf_33 (lv_at hl 4 rfl) ?_
          refine nb_iand hx hb dX0_numberOf_35 ?_
          refine nb_if_eq (tgt := 43) hx hb dX0_numberOf_36 (by decide) (Nat.lt_of_le_of_lt Nat.and_le_left (by omega)) (fun c2 => ?_) (fun c2 => ?_)
          · refine lv_iconst (v := nI 0) hx hb dX0_numberOf_43 (by decide) ?_
            refine nb_top (y := nI (cu_bit y (2 ^ t))) (by rw [cu_bit, if_pos c2]) ?_
            exact k44
          · refine lv_iconst (v := nI 1) hx hb dX0_numberOf_39 (by decide) ?_
            refine lv_goto (tgt := 44) hx hb dX0_numberOf_40 (by decide) ?_
            refine nb_top (y := nI (cu_bit y (2 ^ t))) (by rw [cu_bit, if_neg (by omega)]) ?_
            exact k44
        refine lv_iload_n hx hb dX0_numberOf_17 rfl (lv_at hl 0 rfl) ?_
        refine lv_iload hx hb dX0_numberOf_18 (lv_at hl 3 rfl) ?_
        refine nb_iand hx hb dX0_numberOf_20 ?_
        refine nb_if_eq (tgt := 28) hx hb dX0_numberOf_21 (by decide) (Nat.lt_of_le_of_lt Nat.and_le_left (by omega)) (fun c1 => ?_) (fun c1 => ?_)
        · refine lv_iconst (v := nI 0) hx hb dX0_numberOf_28 (by decide) ?_
          refine nb_top (y := nI (cu_bit x (2 ^ t))) (by rw [cu_bit, if_pos c1]) ?_
          exact k29
        · refine lv_iconst (v := nI 1) hx hb dX0_numberOf_24 (by decide) ?_
          refine lv_goto (tgt := 29) hx hb dX0_numberOf_25 (by decide) ?_
          refine nb_top (y := nI (cu_bit x (2 ^ t))) (by rw [cu_bit, if_neg (by omega)]) ?_
          exact k29
  refine lv_iload_n hx hb dX0_numberOf_0 rfl (lv_at hl 1 rfl) ?_
  refine lv_istore_n (lv' := [(3, .int (nI X)), (0, .ref h0), (1, .int (nI X)), (2, .int (nI Y))]) hx hb dX0_numberOf_1 rfl hl (by decide) rfl (fun ls hl => ?_)
  refine lv_iload_n hx hb dX0_numberOf_2 rfl (lv_at hl 3 rfl) ?_
  refine lv_istore (lv' := [(4, .int (nI Y)), (3, .int (nI X)), (0, .ref h0), (1, .int (nI X)), (2, .int (nI Y))]) hx hb dX0_numberOf_3 hl (by decide) rfl (fun ls hl => ?_)
  refine lv_iconst (v := nI 0) hx hb dX0_numberOf_5 (by decide) ?_
  refine lv_istore (lv' := [(5, .int (nI 0)), (4, .int (nI Y)), (3, .int (nI X)), (0, .ref h0), (1, .int (nI X)), (2, .int (nI Y))]) hx hb dX0_numberOf_6 hl (by decide) rfl (fun ls hl => ?_)
  refine lv_bipush (v := nI 8) hx hb dX0_numberOf_8 (by decide) ?_
  refine lv_istore (lv' := [(6, .int (nI 8)), (5, .int (nI 0)), (4, .int (nI Y)), (3, .int (nI X)), (0, .ref h0), (1, .int (nI X)), (2, .int (nI Y))]) hx hb dX0_numberOf_10 hl (by decide) rfl (fun ls hl => ?_)
  exact loop 5 4 X Y 0 (by omega) (by omega) (by omega) rfl (by omega) ls (lv_sub hl [3, 2, 1, 0] rfl)
end
section
set_option maxHeartbeats 4000000 in
set_option maxRecDepth 100000 in
/-- numberOf of the model -/
theorem mX1_numberOf (l : Launch) (k0 X Y : Nat) (hX : X < 16) (hY : Y < 16) : MetR l yX1_numberOf cX1_numberOf 12 .int rX1_numberOf [.ref k0, .int (nI X), .int (nI Y)] (fun _ => True) (nI (cu_num X Y)) := by
  refine metR_of (by decide) (Nat.le_of_ble_eq_true rfl) (nb_narI _) ?_
  intro p e s m args below meth c H Q S hH hB kret ls hl
  have S : CallFix p m c cX1_numberOf 12 s args lw_all RX1 := S
  have hx := S.1
  have hb := S.2.1
  have hts := S.2.2.2.2
  have hl : lv_has ls 12 [(0, .ref k0), (1, .int (nI X)), (2, .int (nI Y))] := hl
  have loop : ∀ (n : Nat) (t x y n_ : Nat), t ≤ 4 → x ≤ 15 → y ≤ 15 → cu_go t x y n_ = cu_num X Y → t < n → ∀ ls : Array Slot, lv_has ls 12 [(3, .int (nI x)), (4, .int (nI y)), (5, .int (nI n_)), (6, .int (nI (cu_w t))), (7, .int (nI (4 - t)))] → W p l e rX1_numberOf s m args below meth c H [] 0 0 Q (F0 m 15 ls []) := by
    intro n
    induction n with
    | zero => intro t x y n_ ht hx1 hy1 hgo hm; exact absurd hm (Nat.not_lt_zero _)
    | succ n ih =>
      intro t x y n_ ht hx1 hy1 hgo hm ls hl
      have hw := cu_w_le ht
      refine lv_iload hx hb dX1_numberOf_15 (lv_at hl 4 rfl) ?_
      refine lv_iconst (v := nI 4) hx hb dX1_numberOf_17 (by decide) ?_
      refine nb_icmp_ge (tgt := 135) hx hb dX1_numberOf_18 (by decide) (by omega) (by omega) (fun c0 => ?_) (fun c0 => ?_)
      · have e : t = 0 := by omega
        subst e
        have hgo : n_ = cu_num X Y := hgo
        refine lv_iload hx hb dX1_numberOf_135 (lv_at hl 2 rfl) ?_
        refine lv_sipush (v := nI 255) hx hb dX1_numberOf_137 (by decide) ?_
        refine nb_iand hx hb dX1_numberOf_140 ?_
        exact kret 141 ls (nI (n_ &&& 255)) dX1_numberOf_141 (by rw [hgo, cu_255 _ (cu_num_lt hX hY)])
      · obtain ⟨t, rfl⟩ : ∃ k, t = k + 1 := ⟨t - 1, by omega⟩
        have hl : lv_has ls 12 [(3, .int (nI x)), (4, .int (nI y)), (5, .int (nI n_)), (6, .int (nI (2 ^ t))), (7, .int (nI (4 - (t + 1))))] := hl
        have hw : 2 ^ t ≤ 8 := hw
        have k33 : W p l e rX1_numberOf s m args below meth c H [] 0 0 Q (F0 m 33 ls [.int (nI (cu_bit x (2 ^ t)))]) := by
          refine lv_istore (lv' := [(8, .int (nI (cu_bit x (2 ^ t)))), (3, .int (nI x)), (4, .int (nI y)), (5, .int (nI n_)), (6, .int (nI (2 ^ t))), (7, .int (nI (4 - (t + 1))))]) hx hb dX1_numberOf_33 hl (by decide) rfl (fun ls hl => ?_)
          have k48 : W p l e rX1_numberOf s m args below meth c H [] 0 0 Q (F0 m 48 ls [.int (nI (cu_bit y (2 ^ t)))]) := by
            have ha := cu_bit_01 x (2 ^ t)
            have hbb := cu_bit_01 y (2 ^ t)
            refine lv_istore (lv' := [(9, .int (nI (cu_bit y (2 ^ t)))), (8, .int (nI (cu_bit x (2 ^ t)))), (3, .int (nI x)), (4, .int (nI y)), (5, .int (nI n_)), (6, .int (nI (2 ^ t))), (7, .int (nI (4 - (t + 1))))]) hx hb dX1_numberOf_48 hl (by decide) rfl (fun ls hl => ?_)
            refine lv_iload hx hb dX1_numberOf_50 (lv_at hl 1 rfl) ?_
            refine nb_if_eq (tgt := 68) hx hb dX1_numberOf_52 (by decide) (by omega) (fun d3 => ?_) (fun d3 => ?_)
            · refine lv_iload hx hb dX1_numberOf_68 (lv_at hl 0 rfl) ?_
              refine nb_if_eq (tgt := 77) hx hb dX1_numberOf_70 (by decide) (by omega) (fun d4 => ?_) (fun d4 => ?_)
              · have ea : cu_bit x (2 ^ t) = 0 := by omega
                have eb : cu_bit y (2 ^ t) = 0 := by omega
                refine lv_iconst (v := nI 0) hx hb dX1_numberOf_77 (by decide) ?_
                refine lv_istore (lv' := [(10, .int (nI 0)), (9, .int (nI (cu_bit y (2 ^ t)))), (8, .int (nI (cu_bit x (2 ^ t)))), (3, .int (nI x)), (4, .int (nI y)), (5, .int (nI n_)), (6, .int (nI (2 ^ t))), (7, .int (nI (4 - (t + 1))))]) hx hb dX1_numberOf_78 hl (by decide) rfl (fun ls hl => ?_)
                refine lv_iload_n hx hb dX1_numberOf_80 rfl (lv_at hl 3 rfl) ?_
                refine lv_istore (lv' := [(11, .int (nI x)), (10, .int (nI 0)), (9, .int (nI (cu_bit y (2 ^ t)))), (8, .int (nI (cu_bit x (2 ^ t)))), (3, .int (nI x)), (4, .int (nI y)), (5, .int (nI n_)), (6, .int (nI (2 ^ t))), (7, .int (nI (4 - (t + 1))))]) hx hb dX1_numberOf_81 hl (by decide) rfl (fun ls hl => ?_)
                refine lv_iconst (v := nI 4) hx hb dX1_numberOf_83 (by decide) ?_
                refine lv_iload hx hb dX1_numberOf_84 (lv_at hl 6 rfl) ?_
                refine nb_imul hx hb dX1_numberOf_86 ?_
                refine lv_iload hx hb dX1_numberOf_87 (lv_at hl 1 rfl) ?_
                refine nb_iadd hx hb dX1_numberOf_89 ?_
                refine lv_istore (lv' := [(5, .int (nI ((4 * n_) + 0))), (11, .int (nI x)), (10, .int (nI 0)), (9, .int (nI (cu_bit y (2 ^ t)))), (8, .int (nI (cu_bit x (2 ^ t)))), (3, .int (nI x)), (4, .int (nI y)), (6, .int (nI (2 ^ t))), (7, .int (nI (4 - (t + 1))))]) hx hb dX1_numberOf_90 hl (by decide) rfl (fun ls hl => ?_)
                refine lv_iload hx hb dX1_numberOf_92 (lv_at hl 2 rfl) ?_
                refine nb_if_ne (tgt := 104) hx hb dX1_numberOf_94 (by decide) (by omega) (fun d1 => ?_) (fun d1 => ?_)
                · exfalso; omega
                · refine lv_iload hx hb dX1_numberOf_97 (lv_at hl 6 rfl) ?_
                  refine lv_istore_n (lv' := [(3, .int (nI y)), (5, .int (nI ((4 * n_) + 0))), (11, .int (nI x)), (10, .int (nI 0)), (9, .int (nI (cu_bit y (2 ^ t)))), (8, .int (nI (cu_bit x (2 ^ t)))), (4, .int (nI y)), (6, .int (nI (2 ^ t))), (7, .int (nI (4 - (t + 1))))]) hx hb dX1_numberOf_99 rfl hl (by decide) rfl (fun ls hl => ?_)
                  refine lv_iload hx hb dX1_numberOf_100 (lv_at hl 2 rfl) ?_
                  refine lv_istore (lv' := [(4, .int (nI x)), (3, .int (nI y)), (5, .int (nI ((4 * n_) + 0))), (11, .int (nI x)), (10, .int (nI 0)), (9, .int (nI (cu_bit y (2 ^ t)))), (8, .int (nI (cu_bit x (2 ^ t)))), (6, .int (nI (2 ^ t))), (7, .int (nI (4 - (t + 1))))]) hx hb dX1_numberOf_102 hl (by decide) rfl (fun ls hl => ?_)
                  refine lv_iload hx hb dX1_numberOf_104 (lv_at hl 4 rfl) ?_
                  refine lv_iconst (v := nI 3) hx hb dX1_numberOf_106 (by decide) ?_
                  refine nb_icmp_ne (tgt := 123) hx hb dX1_numberOf_107 (by decide) (by omega) (by omega) (fun d2 => ?_) (fun d2 => ?_)
                  · refine lv_iload hx hb dX1_numberOf_123 (lv_at hl 7 rfl) ?_
                    refine lv_iconst (v := nI 2) hx hb dX1_numberOf_125 (by decide) ?_
                    refine nb_idiv hx hb dX1_numberOf_126 (by omega) (by omega) (by omega) ?_
                    refine nb_top (y := nI (cu_w t)) (by rw [cu_w_half (by omega)]) ?_
                    refine lv_istore (lv' := [(6, .int (nI (cu_w t))), (4, .int (nI x)), (3, .int (nI y)), (5, .int (nI ((4 * n_) + 0))), (11, .int (nI x)), (10, .int (nI 0)), (9, .int (nI (cu_bit y (2 ^ t)))), (8, .int (nI (cu_bit x (2 ^ t)))), (7, .int (nI (4 - (t + 1))))]) hx hb dX1_numberOf_127 hl (by decide) rfl (fun ls hl => ?_)
                    refine lv_iinc (v := nI ((4 - (t + 1)) + 1)) (lv' := [(7, .int (nI ((4 - (t + 1)) + 1))), (6, .int (nI (cu_w t))), (4, .int (nI x)), (3, .int (nI y)), (5, .int (nI ((4 * n_) + 0))), (11, .int (nI x)), (10, .int (nI 0)), (9, .int (nI (cu_bit y (2 ^ t)))), (8, .int (nI (cu_bit x (2 ^ t))))]) hx hb dX1_numberOf_129 hl (k := 8) rfl (nI_1 _) (by decide) rfl (fun ls hl => ?_)
                    refine lv_goto (tgt := 15) hx hb dX1_numberOf_132 (by decide) ?_
                    rw [show 4 - (t + 1) + 1 = 4 - t by omega] at hl
                    exact ih t (y) (x) ((4 * n_) + 0) (by omega) (by omega) (by omega) (by rw [← hgo]; simp [cu_go, cu_nx, cu_ny, cu_nn, ea, eb]) (by omega) ls (lv_sub hl [3, 2, 4, 1, 0] rfl)
                  · exfalso; omega
              · have ea : cu_bit x (2 ^ t) = 0 := by omega
                have eb : cu_bit y (2 ^ t) = 1 := by omega
                refine lv_iconst (v := nI 1) hx hb dX1_numberOf_73 (by decide) ?_
                refine lv_goto (tgt := 78) hx hb dX1_numberOf_74 (by decide) ?_
                refine lv_istore (lv' := [(10, .int (nI 1)), (9, .int (nI (cu_bit y (2 ^ t)))), (8, .int (nI (cu_bit x (2 ^ t)))), (3, .int (nI x)), (4, .int (nI y)), (5, .int (nI n_)), (6, .int (nI (2 ^ t))), (7, .int (nI (4 - (t + 1))))]) hx hb dX1_numberOf_78 hl (by decide) rfl (fun ls hl => ?_)
                refine lv_iload_n hx hb dX1_numberOf_80 rfl (lv_at hl 3 rfl) ?_
                refine lv_istore (lv' := [(11, .int (nI x)), (10, .int (nI 1)), (9, .int (nI (cu_bit y (2 ^ t)))), (8, .int (nI (cu_bit x (2 ^ t)))), (3, .int (nI x)), (4, .int (nI y)), (5, .int (nI n_)), (6, .int (nI (2 ^ t))), (7, .int (nI (4 - (t + 1))))]) hx hb dX1_numberOf_81 hl (by decide) rfl (fun ls hl => ?_)
                refine lv_iconst (v := nI 4) hx hb dX1_numberOf_83 (by decide) ?_
                refine lv_iload hx hb dX1_numberOf_84 (lv_at hl 6 rfl) ?_
                refine nb_imul hx hb dX1_numberOf_86 ?_
                refine lv_iload hx hb dX1_numberOf_87 (lv_at hl 1 rfl) ?_
                refine nb_iadd hx hb dX1_numberOf_89 ?_
                refine lv_istore (lv' := [(5, .int (nI ((4 * n_) + 1))), (11, .int (nI x)), (10, .int (nI 1)), (9, .int (nI (cu_bit y (2 ^ t)))), (8, .int (nI (cu_bit x (2 ^ t)))), (3, .int (nI x)), (4, .int (nI y)), (6, .int (nI (2 ^ t))), (7, .int (nI (4 - (t + 1))))]) hx hb dX1_numberOf_90 hl (by decide) rfl (fun ls hl => ?_)
                refine lv_iload hx hb dX1_numberOf_92 (lv_at hl 2 rfl) ?_
                refine nb_if_ne (tgt := 104) hx hb dX1_numberOf_94 (by decide) (by omega) (fun d1 => ?_) (fun d1 => ?_)
                · refine lv_iload hx hb dX1_numberOf_104 (lv_at hl 2 rfl) ?_
                  refine lv_iconst (v := nI 3) hx hb dX1_numberOf_106 (by decide) ?_
                  refine nb_icmp_ne (tgt := 123) hx hb dX1_numberOf_107 (by decide) (by omega) (by omega) (fun d2 => ?_) (fun d2 => ?_)
                  · refine lv_iload hx hb dX1_numberOf_123 (lv_at hl 7 rfl) ?_
                    refine lv_iconst (v := nI 2) hx hb dX1_numberOf_125 (by decide) ?_
                    refine nb_idiv hx hb dX1_numberOf_126 (by omega) (by omega) (by omega) ?_
                    refine nb_top (y := nI (cu_w t)) (by rw [cu_w_half (by omega)]) ?_
                    refine lv_istore (lv' := [(6, .int (nI (cu_w t))), (5, .int (nI ((4 * n_) + 1))), (11, .int (nI x)), (10, .int (nI 1)), (9, .int (nI (cu_bit y (2 ^ t)))), (8, .int (nI (cu_bit x (2 ^ t)))), (3, .int (nI x)), (4, .int (nI y)), (7, .int (nI (4 - (t + 1))))]) hx hb dX1_numberOf_127 hl (by decide) rfl (fun ls hl => ?_)
                    refine lv_iinc (v := nI ((4 - (t + 1)) + 1)) (lv' := [(7, .int (nI ((4 - (t + 1)) + 1))), (6, .int (nI (cu_w t))), (5, .int (nI ((4 * n_) + 1))), (11, .int (nI x)), (10, .int (nI 1)), (9, .int (nI (cu_bit y (2 ^ t)))), (8, .int (nI (cu_bit x (2 ^ t)))), (3, .int (nI x)), (4, .int (nI y))]) hx hb dX1_numberOf_129 hl (k := 8) rfl (nI_1 _) (by decide) rfl (fun ls hl => ?_)
                    refine lv_goto (tgt := 15) hx hb dX1_numberOf_132 (by decide) ?_
                    rw [show 4 - (t + 1) + 1 = 4 - t by omega] at hl
                    exact ih t (x) (y) ((4 * n_) + 1) (by omega) (by omega) (by omega) (by rw [← hgo]; simp [cu_go, cu_nx, cu_ny, cu_nn, ea, eb]) (by omega) ls (lv_sub hl [7, 8, 2, 1, 0] rfl)
                  · exfalso; omega
                · exfalso; omega
            · refine lv_iload hx hb dX1_numberOf_55 (lv_at hl 0 rfl) ?_
              refine nb_if_eq (tgt := 64) hx hb dX1_numberOf_57 (by decide) (by omega) (fun d4 => ?_) (fun d4 => ?_)
              · have ea : cu_bit x (2 ^ t) = 1 := by omega
                have eb : cu_bit y (2 ^ t) = 0 := by omega
                refine lv_iconst (v := nI 3) hx hb dX1_numberOf_64 (by decide) ?_
                refine lv_goto (tgt := 78) hx hb dX1_numberOf_65 (by decide) ?_
                refine lv_istore (lv' := [(10, .int (nI 3)), (9, .int (nI (cu_bit y (2 ^ t)))), (8, .int (nI (cu_bit x (2 ^ t)))), (3, .int (nI x)), (4, .int (nI y)), (5, .int (nI n_)), (6, .int (nI (2 ^ t))), (7, .int (nI (4 - (t + 1))))]) hx hb dX1_numberOf_78 hl (by decide) rfl (fun ls hl => ?_)
                refine lv_iload_n hx hb dX1_numberOf_80 rfl (lv_at hl 3 rfl) ?_
                refine lv_istore (lv' := [(11, .int (nI x)), (10, .int (nI 3)), (9, .int (nI (cu_bit y (2 ^ t)))), (8, .int (nI (cu_bit x (2 ^ t)))), (3, .int (nI x)), (4, .int (nI y)), (5, .int (nI n_)), (6, .int (nI (2 ^ t))), (7, .int (nI (4 - (t + 1))))]) hx hb dX1_numberOf_81 hl (by decide) rfl (fun ls hl => ?_)
                refine lv_iconst (v := nI 4) hx hb dX1_numberOf_83 (by decide) ?_
                refine lv_iload hx hb dX1_numberOf_84 (lv_at hl 6 rfl) ?_
                refine nb_imul hx hb dX1_numberOf_86 ?_
                refine lv_iload hx hb dX1_numberOf_87 (lv_at hl 1 rfl) ?_
                refine nb_iadd hx hb dX1_numberOf_89 ?_
                refine lv_istore (lv' := [(5, .int (nI ((4 * n_) + 3))), (11, .int (nI x)), (10, .int (nI 3)), (9, .int (nI (cu_bit y (2 ^ t)))), (8, .int (nI (cu_bit x (2 ^ t)))), (3, .int (nI x)), (4, .int (nI y)), (6, .int (nI (2 ^ t))), (7, .int (nI (4 - (t + 1))))]) hx hb dX1_numberOf_90 hl (by decide) rfl (fun ls hl => ?_)
                refine lv_iload hx hb dX1_numberOf_92 (lv_at hl 2 rfl) ?_
                refine nb_if_ne (tgt := 104) hx hb dX1_numberOf_94 (by decide) (by omega) (fun d1 => ?_) (fun d1 => ?_)
                · refine lv_iload hx hb dX1_numberOf_104 (lv_at hl 2 rfl) ?_
                  refine lv_iconst (v := nI 3) hx hb dX1_numberOf_106 (by decide) ?_
                  refine nb_icmp_ne (tgt := 123) hx hb dX1_numberOf_107 (by decide) (by omega) (by omega) (fun d2 => ?_) (fun d2 => ?_)
                  · exfalso; omega
                  · refine lv_bipush (v := nI 15) hx hb dX1_numberOf_110 (by decide) ?_
                    refine lv_iload hx hb dX1_numberOf_112 (lv_at hl 6 rfl) ?_
                    refine nb_isub hx hb dX1_numberOf_114 (by omega) ?_
                    refine lv_istore_n (lv' := [(3, .int (nI (15 - y))), (5, .int (nI ((4 * n_) + 3))), (11, .int (nI x)), (10, .int (nI 3)), (9, .int (nI (cu_bit y (2 ^ t)))), (8, .int (nI (cu_bit x (2 ^ t)))), (4, .int (nI y)), (6, .int (nI (2 ^ t))), (7, .int (nI (4 - (t + 1))))]) hx hb dX1_numberOf_115 rfl hl (by decide) rfl (fun ls hl => ?_)
                    refine lv_bipush (v := nI 15) hx hb dX1_numberOf_116 (by decide) ?_
                    refine lv_iload hx hb dX1_numberOf_118 (lv_at hl 2 rfl) ?_
                    refine nb_isub hx hb dX1_numberOf_120 (by omega) ?_
                    refine lv_istore (lv' := [(4, .int (nI (15 - x))), (3, .int (nI (15 - y))), (5, .int (nI ((4 * n_) + 3))), (11, .int (nI x)), (10, .int (nI 3)), (9, .int (nI (cu_bit y (2 ^ t)))), (8, .int (nI (cu_bit x (2 ^ t)))), (6, .int (nI (2 ^ t))), (7, .int (nI (4 - (t + 1))))]) hx hb dX1_numberOf_121 hl (by decide) rfl (fun ls hl => ?_)
                    refine lv_iload hx hb dX1_numberOf_123 (lv_at hl 7 rfl) ?_
                    refine lv_iconst (v := nI 2) hx hb dX1_numberOf_125 (by decide) ?_
                    refine nb_idiv hx hb dX1_numberOf_126 (by omega) (by omega) (by omega) ?_
                    refine nb_top (y := nI (cu_w t)) (by rw [cu_w_half (by omega)]) ?_
                    refine lv_istore (lv' := [(6, .int (nI (cu_w t))), (4, .int (nI (15 - x))), (3, .int (nI (15 - y))), (5, .int (nI ((4 * n_) + 3))), (11, .int (nI x)), (10, .int (nI 3)), (9, .int (nI (cu_bit y (2 ^ t)))), (8, .int (nI (cu_bit x (2 ^ t)))), (7, .int (nI (4 - (t + 1))))]) hx hb dX1_numberOf_127 hl (by decide) rfl (fun ls hl => ?_)
                    refine lv_iinc (v := nI ((4 - (t + 1)) + 1)) (lv' := [(7, .int (nI ((4 - (t + 1)) + 1))), (6, .int (nI (cu_w t))), (4, .int (nI (15 - x))), (3, .int (nI (15 - y))), (5, .int (nI ((4 * n_) + 3))), (11, .int (nI x)), (10, .int (nI 3)), (9, .int (nI (cu_bit y (2 ^ t)))), (8, .int (nI (cu_bit x (2 ^ t))))]) hx hb dX1_numberOf_129 hl (k := 8) rfl (nI_1 _) (by decide) rfl (fun ls hl => ?_)
                    refine lv_goto (tgt := 15) hx hb dX1_numberOf_132 (by decide) ?_
                    rw [show 4 - (t + 1) + 1 = 4 - t by omega] at hl
                    exact ih t (15 - y) (15 - x) ((4 * n_) + 3) (by omega) (by omega) (by omega) (by rw [← hgo]; simp [cu_go, cu_nx, cu_ny, cu_nn, ea, eb]) (by omega) ls (lv_sub hl [3, 2, 4, 1, 0] rfl)
                · exfalso; omega
              · have ea : cu_bit x (2 ^ t) = 1 := by omega
                have eb : cu_bit y (2 ^ t) = 1 := by omega
                refine lv_iconst (v := nI 2) hx hb dX1_numberOf_60 (by decide) ?_
                refine lv_goto (tgt := 78) hx hb dX1_numberOf_61 (by decide) ?_
                refine lv_istore (lv' := [(10, .int (nI 2)), (9, .int (nI (cu_bit y (2 ^ t)))), (8, .int (nI (cu_bit x (2 ^ t)))), (3, .int (nI x)), (4, .int (nI y)), (5, .int (nI n_)), (6, .int (nI (2 ^ t))), (7, .int (nI (4 - (t + 1))))]) hx hb dX1_numberOf_78 hl (by decide) rfl (fun ls hl => ?_)
                refine lv_iload_n hx hb dX1_numberOf_80 rfl (lv_at hl 3 rfl) ?_
                refine lv_istore (lv' := [(11, .int (nI x)), (10, .int (nI 2)), (9, .int (nI (cu_bit y (2 ^ t)))), (8, .int (nI (cu_bit x (2 ^ t)))), (3, .int (nI x)), (4, .int (nI y)), (5, .int (nI n_)), (6, .int (nI (2 ^ t))), (7, .int (nI (4 - (t + 1))))]) hx hb dX1_numberOf_81 hl (by decide) rfl (fun ls hl => ?_)
                refine lv_iconst (v := nI 4) hx hb dX1_numberOf_83 (by decide) ?_
                refine lv_iload hx hb dX1_numberOf_84 (lv_at hl 6 rfl) ?_
                refine nb_imul hx hb dX1_numberOf_86 ?_
                refine lv_iload hx hb dX1_numberOf_87 (lv_at hl 1 rfl) ?_
                refine nb_iadd hx hb dX1_numberOf_89 ?_
                refine lv_istore (lv' := [(5, .int (nI ((4 * n_) + 2))), (11, .int (nI x)), (10, .int (nI 2)), (9, .int (nI (cu_bit y (2 ^ t)))), (8, .int (nI (cu_bit x (2 ^ t)))), (3, .int (nI x)), (4, .int (nI y)), (6, .int (nI (2 ^ t))), (7, .int (nI (4 - (t + 1))))]) hx hb dX1_numberOf_90 hl (by decide) rfl (fun ls hl => ?_)
                refine lv_iload hx hb dX1_numberOf_92 (lv_at hl 2 rfl) ?_
                refine nb_if_ne (tgt := 104) hx hb dX1_numberOf_94 (by decide) (by omega) (fun d1 => ?_) (fun d1 => ?_)
                · refine lv_iload hx hb dX1_numberOf_104 (lv_at hl 2 rfl) ?_
                  refine lv_iconst (v := nI 3) hx hb dX1_numberOf_106 (by decide) ?_
                  refine nb_icmp_ne (tgt := 123) hx hb dX1_numberOf_107 (by decide) (by omega) (by omega) (fun d2 => ?_) (fun d2 => ?_)
                  · refine lv_iload hx hb dX1_numberOf_123 (lv_at hl 7 rfl) ?_
                    refine lv_iconst (v := nI 2) hx hb dX1_numberOf_125 (by decide) ?_
                    refine nb_idiv hx hb dX1_numberOf_126 (by omega) (by omega) (by omega) ?_
                    refine nb_top (y := nI (cu_w t)) (by rw [cu_w_half (by omega)]) ?_
                    refine lv_istore (lv' := [(6, .int (nI (cu_w t))), (5, .int (nI ((4 * n_) + 2))), (11, .int (nI x)), (10, .int (nI 2)), (9, .int (nI (cu_bit y (2 ^ t)))), (8, .int (nI (cu_bit x (2 ^ t)))), (3, .int (nI x)), (4, .int (nI y)), (7, .int (nI (4 - (t + 1))))]) hx hb dX1_numberOf_127 hl (by decide) rfl (fun ls hl => ?_)
                    refine lv_iinc (v := nI ((4 - (t + 1)) + 1)) (lv' := [(7, .int (nI ((4 - (t + 1)) + 1))), (6, .int (nI (cu_w t))), (5, .int (nI ((4 * n_) + 2))), (11, .int (nI x)), (10, .int (nI 2)), (9, .int (nI (cu_bit y (2 ^ t)))), (8, .int (nI (cu_bit x (2 ^ t)))), (3, .int (nI x)), (4, .int (nI y))]) hx hb dX1_numberOf_129 hl (k := 8) rfl (nI_1 _) (by decide) rfl (fun ls hl => ?_)
                    refine lv_goto (tgt := 15) hx hb dX1_numberOf_132 (by decide) ?_
                    rw [show 4 - (t + 1) + 1 = 4 - t by omega] at hl
                    exact ih t (x) (y) ((4 * n_) + 2) (by omega) (by omega) (by omega) (by rw [← hgo]; simp [cu_go, cu_nx, cu_ny, cu_nn, ea, eb]) (by omega) ls (lv_sub hl [7, 8, 2, 1, 0] rfl)
                  · exfalso; omega
                · exfalso; omega
          refine lv_iload hx hb dX1_numberOf_35 (lv_at hl 2 rfl) ?_
          refine lv_iload hx hb dX1_numberOf_37 (lv_at hl 4 rfl) ?_
          refine nb_iand hx hb dX1_numberOf_39 ?_
          refine nb_if_eq (tgt := 47) hx hb dX1_numberOf_40 (by decide) (Nat.lt_of_le_of_lt Nat.and_le_left (by omega)) (fun c2 => ?_) (fun c2 => ?_)
          · refine lv_iconst (v := nI 0) hx hb dX1_numberOf_47 (by decide) ?_
            refine nb_top (y := nI (cu_bit y (2 ^ t))) (by rw [cu_bit, if_pos c2]) ?_
            exact k48
          · refine lv_iconst (v := nI 1) hx hb dX1_numberOf_43 (by decide) ?_
            refine lv_goto (tgt := 48) hx hb dX1_numberOf_44 (by decide) ?_
            refine nb_top (y := nI (cu_bit y (2 ^ t))) (by rw [cu_bit, if_neg (by omega)]) ?_
            exact k48
        refine lv_iload_n hx hb dX1_numberOf_21 rfl (lv_at hl 0 rfl) ?_
        refine lv_iload hx hb dX1_numberOf_22 (lv_at hl 3 rfl) ?_
        refine nb_iand hx hb dX1_numberOf_24 ?_
        refine nb_if_eq (tgt := 32) hx hb dX1_numberOf_25 (by decide) (Nat.lt_of_le_of_lt Nat.and_le_left (by omega)) (fun c1 => ?_) (fun c1 => ?_)
        · refine lv_iconst (v := nI 0) hx hb dX1_numberOf_32 (by decide) ?_
          refine nb_top (y := nI (cu_bit x (2 ^ t))) (by rw [cu_bit, if_pos c1]) ?_
          exact k33
        · refine lv_iconst (v := nI 1) hx hb dX1_numberOf_28 (by decide) ?_
          refine lv_goto (tgt := 33) hx hb dX1_numberOf_29 (by decide) ?_
          refine nb_top (y := nI (cu_bit x (2 ^ t))) (by rw [cu_bit, if_neg (by omega)]) ?_
          exact k33
  refine lv_iload_n hx hb dX1_numberOf_0 rfl (lv_at hl 1 rfl) ?_
  refine lv_istore_n (lv' := [(3, .int (nI X)), (0, .ref k0), (1, .int (nI X)), (2, .int (nI Y))]) hx hb dX1_numberOf_1 rfl hl (by decide) rfl (fun ls hl => ?_)
  refine lv_iload_n hx hb dX1_numberOf_2 rfl (lv_at hl 3 rfl) ?_
  refine lv_istore (lv' := [(4, .int (nI Y)), (3, .int (nI X)), (0, .ref k0), (1, .int (nI X)), (2, .int (nI Y))]) hx hb dX1_numberOf_3 hl (by decide) rfl (fun ls hl => ?_)
  refine lv_iconst (v := nI 0) hx hb dX1_numberOf_5 (by decide) ?_
  refine lv_istore (lv' := [(5, .int (nI 0)), (4, .int (nI Y)), (3, .int (nI X)), (0, .ref k0), (1, .int (nI X)), (2, .int (nI Y))]) hx hb dX1_numberOf_6 hl (by decide) rfl (fun ls hl => ?_)
  refine lv_bipush (v := nI 8) hx hb dX1_numberOf_8 (by decide) ?_
  refine lv_istore (lv' := [(6, .int (nI 8)), (5, .int (nI 0)), (4, .int (nI Y)), (3, .int (nI X)), (0, .ref k0), (1, .int (nI X)), (2, .int (nI Y))]) hx hb dX1_numberOf_10 hl (by decide) rfl (fun ls hl => ?_)
  refine lv_iconst (v := nI 0) hx hb dX1_numberOf_12 (by decide) ?_
  refine lv_istore (lv' := [(7, .int (nI 0)), (6, .int (nI 8)), (5, .int (nI 0)), (4, .int (nI Y)), (3, .int (nI X)), (0, .ref k0), (1, .int (nI X)), (2, .int (nI Y))]) hx hb dX1_numberOf_13 hl (by decide) rfl (fun ls hl => ?_)
  exact loop 5 4 X Y 0 (by omega) (by omega) (by omega) rfl (by omega) ls (lv_sub hl [4, 3, 2, 1, 0] rfl)
set_option maxHeartbeats 4000000 in
set_option maxRecDepth 100000 in
/-- inSquare -/
theorem mX1_inSquare (l : Launch) (k0 c_ v u w_ : Nat) (hc : c_ < 256) (hv : v ≤ 4) (hu : u < 32) (hw : w_ < 32) : MetR l yX1_inSquare cX1_inSquare 6 .boolean rX1_inSquare [.ref k0, .int (nI c_), .int (nI v), .int (nI u), .int (nI w_)] (fun _ => True) (nI (cu_isq c_ v u w_).toNat) := by
  refine metR_of (by decide) (Nat.le_of_ble_eq_true rfl) (nb_narB _) ?_
  intro p e s m args below meth c H Q S hH hB kret ls hl
  have S : CallFix p m c cX1_inSquare 6 s args lw_all RX1 := S
  have hx := S.1
  have hb := S.2.1
  have hts := S.2.2.2.2
  have hl : lv_has ls 6 [(0, .ref k0), (1, .int (nI c_)), (2, .int (nI v)), (3, .int (nI u)), (4, .int (nI w_))] := hl
  have hs := cu_sd_pow hv
  have := Nat.mul_le_mul (show u ≤ 32 by omega) hs.2.1
  have := Nat.mul_le_mul (show u + 1 ≤ 32 by omega) hs.2.1
  have := Nat.mul_le_mul (show w_ ≤ 32 by omega) hs.2.1
  have := Nat.mul_le_mul (show w_ + 1 ≤ 32 by omega) hs.2.1
  have k60 : cu_isq c_ v u w_ = false → ∀ ls : Array Slot, W p l e rX1_inSquare s m args below meth c H [] 0 0 Q (F0 m 60 ls []) := by
    intro hq ls
    refine lv_iconst (v := nI 0) hx hb dX1_inSquare_60 (by decide) ?_
    exact kret 61 ls (nI 0) dX1_inSquare_61 (by rw [hq]; rfl)
  refine lv_bipush (v := nI 16) hx hb dX1_inSquare_0 (by decide) ?_
  refine lv_iload_n hx hb dX1_inSquare_2 rfl (lv_at hl 2 rfl) ?_
  refine nb_ishr hx hb dX1_inSquare_3 (by omega) (by omega) ?_
  refine nb_top (y := nI (cu_sd v)) (by rw [hs.1]) ?_
  refine lv_istore (lv' := [(5, .int (nI (cu_sd v))), (0, .ref k0), (1, .int (nI c_)), (2, .int (nI v)), (3, .int (nI u)), (4, .int (nI w_))]) hx hb dX1_inSquare_4 hl (by decide) rfl (fun ls hl => ?_)
  refine lv_iload_n hx hb dX1_inSquare_6 rfl (lv_at hl 2 rfl) ?_
  refine lv_bipush (v := nI 16) hx hb dX1_inSquare_7 (by decide) ?_
  refine nb_idiv hx hb dX1_inSquare_9 (by omega) (by omega) (by omega) ?_
  refine lv_iload_n hx hb dX1_inSquare_10 rfl (lv_at hl 4 rfl) ?_
  refine lv_iload hx hb dX1_inSquare_11 (lv_at hl 0 rfl) ?_
  refine nb_imul hx hb dX1_inSquare_13 ?_
  refine nb_icmp_lt (tgt := 60) hx hb dX1_inSquare_14 (by decide) (by omega) (by omega) (fun c1 => ?_) (fun c1 => ?_)
  · exact k60 (cu_isq_f hv (by omega)) ls
  · refine lv_iload_n hx hb dX1_inSquare_17 rfl (lv_at hl 2 rfl) ?_
    refine lv_bipush (v := nI 16) hx hb dX1_inSquare_18 (by decide) ?_
    refine nb_idiv hx hb dX1_inSquare_20 (by omega) (by omega) (by omega) ?_
    refine lv_iload_n hx hb dX1_inSquare_21 rfl (lv_at hl 4 rfl) ?_
    refine lv_iconst (v := nI 1) hx hb dX1_inSquare_22 (by decide) ?_
    refine nb_iadd hx hb dX1_inSquare_23 ?_
    refine lv_iload hx hb dX1_inSquare_24 (lv_at hl 0 rfl) ?_
    refine nb_imul hx hb dX1_inSquare_26 ?_
    refine nb_icmp_ge (tgt := 60) hx hb dX1_inSquare_27 (by decide) (by omega) (by omega) (fun c2 => ?_) (fun c2 => ?_)
    · exact k60 (cu_isq_f hv (by omega)) ls
    · refine lv_iload_n hx hb dX1_inSquare_30 rfl (lv_at hl 2 rfl) ?_
      refine lv_bipush (v := nI 16) hx hb dX1_inSquare_31 (by decide) ?_
      refine nb_irem hx hb dX1_inSquare_33 (by omega) (by omega) (by omega) ?_
      refine lv_iload hx hb dX1_inSquare_34 (lv_at hl 5 rfl) ?_
      refine lv_iload hx hb dX1_inSquare_36 (lv_at hl 0 rfl) ?_
      refine nb_imul hx hb dX1_inSquare_38 ?_
      refine nb_icmp_lt (tgt := 60) hx hb dX1_inSquare_39 (by decide) (by omega) (by omega) (fun c3 => ?_) (fun c3 => ?_)
      · exact k60 (cu_isq_f hv (by omega)) ls
      · refine lv_iload_n hx hb dX1_inSquare_42 rfl (lv_at hl 2 rfl) ?_
        refine lv_bipush (v := nI 16) hx hb dX1_inSquare_43 (by decide) ?_
        refine nb_irem hx hb dX1_inSquare_45 (by omega) (by omega) (by omega) ?_
        refine lv_iload hx hb dX1_inSquare_46 (lv_at hl 5 rfl) ?_
        refine lv_iconst (v := nI 1) hx hb dX1_inSquare_48 (by decide) ?_
        refine nb_iadd hx hb dX1_inSquare_49 ?_
        refine lv_iload hx hb dX1_inSquare_50 (lv_at hl 0 rfl) ?_
        refine nb_imul hx hb dX1_inSquare_52 ?_
        refine nb_icmp_ge (tgt := 60) hx hb dX1_inSquare_53 (by decide) (by omega) (by omega) (fun c4 => ?_) (fun c4 => ?_)
        · exact k60 (cu_isq_f hv (by omega)) ls
        · refine lv_iconst (v := nI 1) hx hb dX1_inSquare_56 (by decide) ?_
          refine lv_goto (tgt := 61) hx hb dX1_inSquare_57 (by decide) ?_
          exact kret 61 ls (nI 1) dX1_inSquare_61 (by rw [(cu_isq_iff hv).mpr ⟨c1, c2, c3, c4⟩]; rfl)
end
section
set_option maxHeartbeats 4000000 in
set_option maxRecDepth 100000 in
/-- cells -/
theorem mX0_cells (l : Launch) (D : va_G) (h0 a1 a2 a3 a4 a5 : Nat) (dB dS : ClassId) (C F L MF ML : Nat → Nat) (mc cx cy : Nat) (S0 : Nat → Nat → Bool) (hC : ∀ q, C q < 128) (hF : ∀ q, F q < 256) (hL : ∀ q, L q < 256) (hR : cu_RX C F L S0) (sv : Int32) : MetR l yX0_cells cX0_cells 4 .int rX0_cells [.ref h0, .int sv] (bW D (tX dB dS) (wX h0 a1 a2 a3 a4 a5 dB dS C F L MF ML mc cx cy)) (cu_on (fun a => nI (fb_ct (S0 a) 256)) sv) := by
  refine metR_of (by decide) (Nat.le_of_ble_eq_true rfl) (nb_narI _) ?_
  intro p e s m args below meth c H Q S hH hB kret ls hl
  have S : CallFix p m c cX0_cells 4 s args lw_all RX0 := S
  have hx := S.1
  have hb := S.2.1
  have hts := S.2.2.2.2
  obtain ⟨hP, hK⟩ := hB
  rw [hH] at hP
  have hl : lv_has ls 4 [(0, .ref h0), (1, .int sv)] := hl
  refine lv_aload_n hx hb dX0_cells_0 rfl (lv_at hl 0 rfl) ?_
  refine lv_iload_n hx hb dX0_cells_1 rfl (lv_at hl 1 rfl) ?_
  refine cu_rcall (As := [.int sv]) (rest := []) S (mX0_isSet l h0 sv) (cwX0_isSet hts ⟨Nat.le_of_ble_eq_true rfl, Nat.le_of_ble_eq_true rfl⟩) (cu_preP (va_recv hK hP (ci := 0) (q0 := 0) rfl rfl)) rfl hl.1 rfl (Nat.le_of_ble_eq_true rfl) dX0_cells_2 (Nat.zero_le _) (Nat.zero_le _) ?_
  refine nb_if_neB (tgt := 10) hx hb dX0_cells_5 (by decide) (fun c1 => ?_) (fun c1 => ?_)
  · obtain ⟨a, ha, rfl⟩ := cu_ok_of c1
    obtain ⟨hk, hI⟩ := hR a ha
    have loop : ∀ (n : Nat) (j : Nat), j ≤ C a → C a - j < n → ∀ ls : Array Slot, lv_has ls 4 [(0, .ref h0), (1, .int (nI a)), (2, .int (nI (fb_ct (S0 a) (cu_lo (fun j => L (40 * a + j)) j)))), (3, .int (nI (40 * a + j)))] → W p l e rX0_cells s m args below meth c H [] 0 0 Q (F0 m 17 ls []) := by
      intro n
      induction n with
      | zero => intro j hj hm; exact absurd hm (Nat.not_lt_zero _)
      | succ n ih =>
        intro j hj hm ls hl
        refine lv_iload_n hx hb dX0_cells_17 rfl (lv_at hl 3 rfl) ?_
        refine lv_bipush (v := nI 40) hx hb dX0_cells_18 (by decide) ?_
        refine lv_iload_n hx hb dX0_cells_20 rfl (lv_at hl 1 rfl) ?_
        refine nb_imul hx hb dX0_cells_21 ?_
        refine lv_aload_n hx hb dX0_cells_22 rfl (lv_at hl 0 rfl) ?_
        refine gX_0 S hK hP dX0_cells_23 ?_
        refine lv_iload_n hx hb dX0_cells_26 rfl (lv_at hl 1 rfl) ?_
        refine nb_bald hx hb hK hP 1 0 rfl rfl (by omega) (by decide) dX0_cells_27 ?_
        have b_1 := hC a
        refine nb_iadd hx hb dX0_cells_28 ?_
        refine nb_icmp_ge (tgt := 56) hx hb dX0_cells_29 (by decide) (by omega) (by omega) (fun c2 => ?_) (fun c2 => ?_)
        · refine lv_iload_n hx hb dX0_cells_56 rfl (lv_at hl 2 rfl) ?_
          exact kret 57 ls (nI (fb_ct (S0 a) (cu_lo (fun j => L (40 * a + j)) j))) dX0_cells_57 (by rw [cu_on_ok ha, ← hI.cells_end, show j = C a by omega])
        · have hIj : F (40 * a + j) ≤ L (40 * a + j) ∧ L (40 * a + j) < 256 := hI.1 j (by omega)
          refine lv_iload_n hx hb dX0_cells_32 rfl (lv_at hl 2 rfl) ?_
          refine lv_aload_n hx hb dX0_cells_33 rfl (lv_at hl 0 rfl) ?_
          refine gX_2 S hK hP dX0_cells_34 ?_
          refine lv_iload_n hx hb dX0_cells_37 rfl (lv_at hl 3 rfl) ?_
          refine nb_sald hx hb hK hP 3 1 rfl rfl (by omega) (by decide) dX0_cells_38 ?_
          have b_2 := hL (40 * a + j)
          refine lv_aload_n hx hb dX0_cells_39 rfl (lv_at hl 0 rfl) ?_
          refine gX_1 S hK hP dX0_cells_40 ?_
          refine lv_iload_n hx hb dX0_cells_43 rfl (lv_at hl 3 rfl) ?_
          refine nb_sald hx hb hK hP 2 1 rfl rfl (by omega) (by decide) dX0_cells_44 ?_
          have b_3 := hF (40 * a + j)
          refine nb_isub hx hb dX0_cells_45 (by omega) ?_
          refine lv_iconst (v := nI 1) hx hb dX0_cells_46 (by decide) ?_
          refine nb_iadd hx hb dX0_cells_47 ?_
          refine nb_iadd hx hb dX0_cells_48 ?_
          refine nb_top (y := nI (fb_ct (S0 a) (cu_lo (fun j => L (40 * a + j)) (j + 1)))) (by rw [hI.cells_step (show j < C a by omega)]) ?_
          refine lv_istore_n (lv' := [(2, .int (nI (fb_ct (S0 a) (cu_lo (fun j => L (40 * a + j)) (j + 1))))), (0, .ref h0), (1, .int (nI a)), (3, .int (nI (40 * a + j)))]) hx hb dX0_cells_49 rfl hl (by decide) rfl (fun ls hl => ?_)
          refine lv_iinc (v := nI ((40 * a + j) + 1)) (lv' := [(3, .int (nI ((40 * a + j) + 1))), (2, .int (nI (fb_ct (S0 a) (cu_lo (fun j => L (40 * a + j)) (j + 1))))), (0, .ref h0), (1, .int (nI a))]) hx hb dX0_cells_50 hl (k := 3) rfl (nI_1 _) (by decide) rfl (fun ls hl => ?_)
          refine lv_goto (tgt := 17) hx hb dX0_cells_53 (by decide) ?_
          exact ih (j + 1) (by omega) (by omega) ls (lv_sub hl [2, 3, 1, 0] rfl)
    refine lv_iconst (v := nI 0) hx hb dX0_cells_10 (by decide) ?_
    refine lv_istore_n (lv' := [(2, .int (nI 0)), (0, .ref h0), (1, .int (nI a))]) hx hb dX0_cells_11 rfl hl (by decide) rfl (fun ls hl => ?_)
    refine lv_bipush (v := nI 40) hx hb dX0_cells_12 (by decide) ?_
    refine lv_iload_n hx hb dX0_cells_14 rfl (lv_at hl 2 rfl) ?_
    refine nb_imul hx hb dX0_cells_15 ?_
    refine lv_istore_n (lv' := [(3, .int (nI (40 * a))), (2, .int (nI 0)), (0, .ref h0), (1, .int (nI a))]) hx hb dX0_cells_16 rfl hl (by decide) rfl (fun ls hl => ?_)
    exact loop (C a + 1) 0 (Nat.zero_le _) (by omega) ls (lv_sub hl [2, 3, 1, 0] rfl)
  · refine lv_iconst (v := (-1)) hx hb dX0_cells_8 (by decide) ?_
    exact kret 9 ls (-1) dX0_cells_9 (by rw [cu_on_no c1])
set_option maxHeartbeats 4000000 in
set_option maxRecDepth 100000 in
/-- stretches -/
theorem mX0_stretches (l : Launch) (D : va_G) (h0 a1 a2 a3 a4 a5 : Nat) (dB dS : ClassId) (C F L MF ML : Nat → Nat) (mc cx cy : Nat) (S0 : Nat → Nat → Bool) (hC : ∀ q, C q < 128) (hF : ∀ q, F q < 256) (hL : ∀ q, L q < 256) (hR : cu_RX C F L S0) (sv : Int32) : MetR l yX0_stretches cX0_stretches 2 .int rX0_stretches [.ref h0, .int sv] (bW D (tX dB dS) (wX h0 a1 a2 a3 a4 a5 dB dS C F L MF ML mc cx cy)) (cu_on (fun a => nI (cu_runs (S0 a))) sv) := by
  refine metR_of (by decide) (Nat.le_of_ble_eq_true rfl) (nb_narI _) ?_
  intro p e s m args below meth c H Q S hH hB kret ls hl
  have S : CallFix p m c cX0_stretches 2 s args lw_all RX0 := S
  have hx := S.1
  have hb := S.2.1
  have hts := S.2.2.2.2
  obtain ⟨hP, hK⟩ := hB
  rw [hH] at hP
  have hl : lv_has ls 2 [(0, .ref h0), (1, .int sv)] := hl
  refine lv_aload_n hx hb dX0_stretches_0 rfl (lv_at hl 0 rfl) ?_
  refine lv_iload_n hx hb dX0_stretches_1 rfl (lv_at hl 1 rfl) ?_
  refine cu_rcall (As := [.int sv]) (rest := []) S (mX0_isSet l h0 sv) (cwX0_isSet hts ⟨Nat.le_of_ble_eq_true rfl, Nat.le_of_ble_eq_true rfl⟩) (cu_preP (va_recv hK hP (ci := 0) (q0 := 0) rfl rfl)) rfl hl.1 rfl (Nat.le_of_ble_eq_true rfl) dX0_stretches_2 (Nat.zero_le _) (Nat.zero_le _) ?_
  refine nb_if_eqB (tgt := 17) hx hb dX0_stretches_5 (by decide) (fun c1 => ?_) (fun c1 => ?_)
  · refine lv_iconst (v := (-1)) hx hb dX0_stretches_17 (by decide) ?_
    exact kret 18 ls (-1) dX0_stretches_18 (by rw [cu_on_no c1])
  · obtain ⟨a, ha, rfl⟩ := cu_ok_of c1
    obtain ⟨hk, hI⟩ := hR a ha
    refine lv_aload_n hx hb dX0_stretches_8 rfl (lv_at hl 0 rfl) ?_
    refine gX_0 S hK hP dX0_stretches_9 ?_
    refine lv_iload_n hx hb dX0_stretches_12 rfl (lv_at hl 1 rfl) ?_
    refine nb_bald hx hb hK hP 1 0 rfl rfl (by omega) (by decide) dX0_stretches_13 ?_
    have b_1 := hC a
    refine lv_goto (tgt := 18) hx hb dX0_stretches_14 (by decide) ?_
    exact kret 18 ls (nI (C a)) dX0_stretches_18 (by rw [cu_on_ok ha, hI.runs])
set_option maxHeartbeats 4000000 in
set_option maxRecDepth 100000 in
/-- has -/
theorem mX0_has (l : Launch) (D : va_G) (h0 a1 a2 a3 a4 a5 : Nat) (dB dS : ClassId) (C F L MF ML : Nat → Nat) (mc cx cy : Nat) (S0 : Nat → Nat → Bool) (hC : ∀ q, C q < 128) (hF : ∀ q, F q < 256) (hL : ∀ q, L q < 256) (hR : cu_RX C F L S0) (sv xv yv : Int32) : MetR l yX0_has cX0_has 8 .boolean rX0_has [.ref h0, .int sv, .int xv, .int yv] (bW D (tX dB dS) (wX h0 a1 a2 a3 a4 a5 dB dS C F L MF ML mc cx cy)) (nI (cu_has S0 sv xv yv).toNat) := by
  refine metR_of (by decide) (Nat.le_of_ble_eq_true rfl) (nb_narB _) ?_
  intro p e s m args below meth c H Q S hH hB kret ls hl
  have S : CallFix p m c cX0_has 8 s args lw_all RX0 := S
  have hx := S.1
  have hb := S.2.1
  have hts := S.2.2.2.2
  obtain ⟨hP, hK⟩ := hB
  rw [hH] at hP
  have hl : lv_has ls 8 [(0, .ref h0), (1, .int sv), (2, .int xv), (3, .int yv)] := hl
  have k17 : cu_has S0 sv xv yv = false → ∀ ls : Array Slot, W p l e rX0_has s m args below meth c H [] 0 0 Q (F0 m 17 ls []) := by
    intro hq ls
    refine lv_iconst (v := nI 0) hx hb dX0_has_17 (by decide) ?_
    exact kret 18 ls (nI 0) dX0_has_18 (by rw [hq]; rfl)
  refine lv_aload_n hx hb dX0_has_0 rfl (lv_at hl 0 rfl) ?_
  refine lv_iload_n hx hb dX0_has_1 rfl (lv_at hl 1 rfl) ?_
  refine cu_rcall (As := [.int sv]) (rest := []) S (mX0_isSet l h0 sv) (cwX0_isSet hts ⟨Nat.le_of_ble_eq_true rfl, Nat.le_of_ble_eq_true rfl⟩) (cu_preP (va_recv hK hP (ci := 0) (q0 := 0) rfl rfl)) rfl hl.1 rfl (Nat.le_of_ble_eq_true rfl) dX0_has_2 (Nat.zero_le _) (Nat.zero_le _) ?_
  refine nb_if_eqB (tgt := 17) hx hb dX0_has_5 (by decide) (fun c1 => ?_) (fun c1 => ?_)
  · exact k17 (by simp [cu_has, c1]) ls
  · refine lv_aload_n hx hb dX0_has_8 rfl (lv_at hl 0 rfl) ?_
    refine lv_iload_n hx hb dX0_has_9 rfl (lv_at hl 2 rfl) ?_
    refine lv_iload_n hx hb dX0_has_10 rfl (lv_at hl 3 rfl) ?_
    refine cu_rcall (As := [.int xv, .int yv]) (rest := []) S (mX0_isCell l h0 xv yv) (cwX0_isCell hts ⟨Nat.le_of_ble_eq_true rfl, Nat.le_of_ble_eq_true rfl⟩) (cu_preP (va_recv hK hP (ci := 0) (q0 := 0) rfl rfl)) rfl hl.1 rfl (Nat.le_of_ble_eq_true rfl) dX0_has_11 (Nat.zero_le _) (Nat.zero_le _) ?_
    refine nb_if_neB (tgt := 19) hx hb dX0_has_14 (by decide) (fun c2 => ?_) (fun c2 => ?_)
    · obtain ⟨a, ha, rfl⟩ := cu_ok_of c1
      obtain ⟨hk, hI⟩ := hR a ha
      obtain ⟨x, y, hx1, hy1, rfl, rfl⟩ := cu_cell_of c2
      refine lv_aload_n hx hb dX0_has_19 rfl (lv_at hl 0 rfl) ?_
      refine lv_iload_n hx hb dX0_has_20 rfl (lv_at hl 2 rfl) ?_
      refine lv_iload_n hx hb dX0_has_21 rfl (lv_at hl 3 rfl) ?_
      refine cu_rcall (As := [.int (nI x), .int (nI y)]) (rest := []) S (mX0_numberOf l h0 x y hx1 hy1) (cwX0_numberOf hts ⟨Nat.le_of_ble_eq_true rfl, Nat.le_of_ble_eq_true rfl⟩) (cu_preP (va_recv hK hP (ci := 0) (q0 := 0) rfl rfl)) rfl hl.1 rfl (Nat.le_of_ble_eq_true rfl) dX0_has_22 (Nat.zero_le _) (Nat.zero_le _) ?_
      have hn := cu_num_lt hx1 hy1
      have loop : ∀ (n : Nat) (i t : Nat), i ≤ t → t ≤ C a → (∀ j, j < i → L (40 * a + j) < cu_num x y) → (∀ j, t ≤ j → j < C a → cu_num x y ≤ L (40 * a + j)) → t - i < n → ∀ ls : Array Slot, lv_has ls 8 [(0, .ref h0), (1, .int (nI a)), (4, .int (nI (cu_num x y))), (5, .int (nI (40 * a + i))), (6, .int (nI (40 * a + t)))] → W p l e rX0_has s m args below meth c H [] 0 0 Q (F0 m 44 ls []) := by
        intro n
        induction n with
        | zero => intro i t h1 h2 h3 h4 hm; exact absurd hm (Nat.not_lt_zero _)
        | succ n ih =>
          intro i t h1 h2 h3 h4 hm ls hl
          refine lv_iload hx hb dX0_has_44 (lv_at hl 3 rfl) ?_
          refine lv_iload hx hb dX0_has_46 (lv_at hl 4 rfl) ?_
          refine nb_icmp_ge (tgt := 88) hx hb dX0_has_48 (by decide) (by omega) (by omega) (fun c3 => ?_) (fun c3 => ?_)
          · have hin : S0 a (cu_num x y) = (decide (i < C a) && decide (F (40 * a + i) ≤ cu_num x y)) := hI.isin (i := i) (by omega) h3 (fun q => h4 i (by omega) q)
            refine lv_iload hx hb dX0_has_88 (lv_at hl 3 rfl) ?_
            refine lv_bipush (v := nI 40) hx hb dX0_has_90 (by decide) ?_
            refine lv_iload_n hx hb dX0_has_92 rfl (lv_at hl 1 rfl) ?_
            refine nb_imul hx hb dX0_has_93 ?_
            refine lv_aload_n hx hb dX0_has_94 rfl (lv_at hl 0 rfl) ?_
            refine gX_0 S hK hP dX0_has_95 ?_
            refine lv_iload_n hx hb dX0_has_98 rfl (lv_at hl 1 rfl) ?_
            refine nb_bald hx hb hK hP 1 0 rfl rfl (by omega) (by decide) dX0_has_99 ?_
            have b_1 := hC a
            refine nb_iadd hx hb dX0_has_100 ?_
            refine nb_icmp_ge (tgt := 120) hx hb dX0_has_101 (by decide) (by omega) (by omega) (fun c4 => ?_) (fun c4 => ?_)
            · refine lv_iconst (v := nI 0) hx hb dX0_has_120 (by decide) ?_
              exact kret 121 ls (nI 0) dX0_has_121 (by rw [cu_has_ok ha hx1 hy1, hin, decide_eq_false (show ¬ i < C a by omega)]; rfl)
            · refine lv_aload_n hx hb dX0_has_104 rfl (lv_at hl 0 rfl) ?_
              refine gX_1 S hK hP dX0_has_105 ?_
              refine lv_iload hx hb dX0_has_108 (lv_at hl 3 rfl) ?_
              refine nb_sald hx hb hK hP 2 1 rfl rfl (by omega) (by decide) dX0_has_110 ?_
              have b_2 := hF (40 * a + i)
              refine lv_iload hx hb dX0_has_111 (lv_at hl 2 rfl) ?_
              refine nb_icmp_gt (tgt := 120) hx hb dX0_has_113 (by decide) (by omega) (by omega) (fun c5 => ?_) (fun c5 => ?_)
              · refine lv_iconst (v := nI 0) hx hb dX0_has_120 (by decide) ?_
                exact kret 121 ls (nI 0) dX0_has_121 (by rw [cu_has_ok ha hx1 hy1, hin, decide_eq_false (show ¬ F (40 * a + i) ≤ cu_num x y by omega), Bool.and_false]; rfl)
              · refine lv_iconst (v := nI 1) hx hb dX0_has_116 (by decide) ?_
                refine lv_goto (tgt := 121) hx hb dX0_has_117 (by decide) ?_
                exact kret 121 ls (nI 1) dX0_has_121 (by rw [cu_has_ok ha hx1 hy1, hin, decide_eq_true (show F (40 * a + i) ≤ cu_num x y by omega), decide_eq_true (show i < C a by omega)]; rfl)
          · refine lv_iload hx hb dX0_has_51 (lv_at hl 3 rfl) ?_
            refine lv_iload hx hb dX0_has_53 (lv_at hl 4 rfl) ?_
            refine nb_iadd hx hb dX0_has_55 ?_
            refine lv_iconst (v := nI 2) hx hb dX0_has_56 (by decide) ?_
            refine nb_idiv hx hb dX0_has_57 (by omega) (by omega) (by omega) ?_
            refine nb_top (y := nI (40 * a + (i + t) / 2)) (congrArg nI (by omega)) ?_
            refine lv_istore (lv' := [(7, .int (nI (40 * a + (i + t) / 2))), (0, .ref h0), (1, .int (nI a)), (4, .int (nI (cu_num x y))), (5, .int (nI (40 * a + i))), (6, .int (nI (40 * a + t)))]) hx hb dX0_has_58 hl (by decide) rfl (fun ls hl => ?_)
            refine lv_aload_n hx hb dX0_has_60 rfl (lv_at hl 1 rfl) ?_
            refine gX_2 S hK hP dX0_has_61 ?_
            refine lv_iload hx hb dX0_has_64 (lv_at hl 0 rfl) ?_
            refine nb_sald hx hb hK hP 3 1 rfl rfl (by omega) (by decide) dX0_has_66 ?_
            have b_3 := hL (40 * a + (i + t) / 2)
            refine lv_iload hx hb dX0_has_67 (lv_at hl 3 rfl) ?_
            refine nb_icmp_ge (tgt := 81) hx hb dX0_has_69 (by decide) (by omega) (by omega) (fun c6 => ?_) (fun c6 => ?_)
            · refine lv_iload hx hb dX0_has_81 (lv_at hl 0 rfl) ?_
              refine lv_istore (lv' := [(6, .int (nI (40 * a + (i + t) / 2))), (7, .int (nI (40 * a + (i + t) / 2))), (0, .ref h0), (1, .int (nI a)), (4, .int (nI (cu_num x y))), (5, .int (nI (40 * a + i)))]) hx hb dX0_has_83 hl (by decide) rfl (fun ls hl => ?_)
              refine lv_goto (tgt := 44) hx hb dX0_has_85 (by decide) ?_
              exact ih i ((i + t) / 2) (by omega) (by omega) h3 (fun j q1 q2 => Nat.le_trans c6 (hI.mono q1 q2)) (by omega) ls (lv_sub hl [2, 3, 4, 5, 0] rfl)
            · refine lv_iload hx hb dX0_has_72 (lv_at hl 0 rfl) ?_
              refine lv_iconst (v := nI 1) hx hb dX0_has_74 (by decide) ?_
              refine nb_iadd hx hb dX0_has_75 ?_
              refine lv_istore (lv' := [(5, .int (nI ((40 * a + (i + t) / 2) + 1))), (7, .int (nI (40 * a + (i + t) / 2))), (0, .ref h0), (1, .int (nI a)), (4, .int (nI (cu_num x y))), (6, .int (nI (40 * a + t)))]) hx hb dX0_has_76 hl (by decide) rfl (fun ls hl => ?_)
              refine lv_goto (tgt := 85) hx hb dX0_has_78 (by decide) ?_
              refine lv_goto (tgt := 44) hx hb dX0_has_85 (by decide) ?_
              exact ih ((i + t) / 2 + 1) t (by omega) h2 (fun j q1 => Nat.lt_of_le_of_lt (hI.mono (show j ≤ (i + t) / 2 by omega) (by omega)) c6) h4 (by omega) ls (lv_sub hl [2, 3, 4, 0, 5] rfl)
      refine lv_istore (lv' := [(4, .int (nI (cu_num x y))), (0, .ref h0), (1, .int (nI a)), (2, .int (nI x)), (3, .int (nI y))]) hx hb dX0_has_25 hl (by decide) rfl (fun ls hl => ?_)
      refine lv_bipush (v := nI 40) hx hb dX0_has_27 (by decide) ?_
      refine lv_iload_n hx hb dX0_has_29 rfl (lv_at hl 2 rfl) ?_
      refine nb_imul hx hb dX0_has_30 ?_
      refine lv_istore (lv' := [(5, .int (nI (40 * a))), (4, .int (nI (cu_num x y))), (0, .ref h0), (1, .int (nI a)), (2, .int (nI x)), (3, .int (nI y))]) hx hb dX0_has_31 hl (by decide) rfl (fun ls hl => ?_)
      refine lv_iload hx hb dX0_has_33 (lv_at hl 0 rfl) ?_
      refine lv_aload_n hx hb dX0_has_35 rfl (lv_at hl 2 rfl) ?_
      refine gX_0 S hK hP dX0_has_36 ?_
      refine lv_iload_n hx hb dX0_has_39 rfl (lv_at hl 3 rfl) ?_
      refine nb_bald hx hb hK hP 1 0 rfl rfl (by omega) (by decide) dX0_has_40 ?_
      have b_4 := hC a
      refine nb_iadd hx hb dX0_has_41 ?_
      refine lv_istore (lv' := [(6, .int (nI ((40 * a) + (C a)))), (5, .int (nI (40 * a))), (4, .int (nI (cu_num x y))), (0, .ref h0), (1, .int (nI a)), (2, .int (nI x)), (3, .int (nI y))]) hx hb dX0_has_42 hl (by decide) rfl (fun ls hl => ?_)
      exact loop (C a + 1) 0 (C a) (Nat.zero_le _) (Nat.le_refl _) (fun j q => absurd q (Nat.not_lt_zero _)) (fun j q1 q2 => by omega) (by omega) ls (lv_sub hl [3, 4, 2, 1, 0] rfl)
    · exact k17 (by simp [cu_has, c2]) ls
set_option maxHeartbeats 4000000 in
set_option maxRecDepth 100000 in
/-- number -/
theorem mX0_number (l : Launch) (D : va_G) (h0 a1 a2 a3 a4 a5 : Nat) (dB dS : ClassId) (C F L MF ML : Nat → Nat) (mc cx cy : Nat) (S0 : Nat → Nat → Bool) (hC : ∀ q, C q < 128) (hF : ∀ q, F q < 256) (hL : ∀ q, L q < 256) (hR : cu_RX C F L S0) (xv yv : Int32) : MetR l yX0_number cX0_number 3 .int rX0_number [.ref h0, .int xv, .int yv] (bW D (tX dB dS) (wX h0 a1 a2 a3 a4 a5 dB dS C F L MF ML mc cx cy)) (cu_cnum xv yv) := by
  refine metR_of (by decide) (Nat.le_of_ble_eq_true rfl) (nb_narI _) ?_
  intro p e s m args below meth c H Q S hH hB kret ls hl
  have S : CallFix p m c cX0_number 3 s args lw_all RX0 := S
  have hx := S.1
  have hb := S.2.1
  have hts := S.2.2.2.2
  obtain ⟨hP, hK⟩ := hB
  rw [hH] at hP
  have hl : lv_has ls 3 [(0, .ref h0), (1, .int xv), (2, .int yv)] := hl
  refine lv_aload_n hx hb dX0_number_0 rfl (lv_at hl 0 rfl) ?_
  refine lv_iload_n hx hb dX0_number_1 rfl (lv_at hl 1 rfl) ?_
  refine lv_iload_n hx hb dX0_number_2 rfl (lv_at hl 2 rfl) ?_
  refine cu_rcall (As := [.int xv, .int yv]) (rest := []) S (mX0_isCell l h0 xv yv) (cwX0_isCell hts ⟨Nat.le_of_ble_eq_true rfl, Nat.le_of_ble_eq_true rfl⟩) (cu_preP (va_recv hK hP (ci := 0) (q0 := 0) rfl rfl)) rfl hl.1 rfl (Nat.le_of_ble_eq_true rfl) dX0_number_3 (Nat.zero_le _) (Nat.zero_le _) ?_
  refine nb_if_eqB (tgt := 18) hx hb dX0_number_6 (by decide) (fun c2 => ?_) (fun c2 => ?_)
  · refine lv_iconst (v := (-1)) hx hb dX0_number_18 (by decide) ?_
    exact kret 19 ls (-1) dX0_number_19 (by rw [cu_cnum_no c2])
  · obtain ⟨x, y, hx1, hy1, rfl, rfl⟩ := cu_cell_of c2
    refine lv_aload_n hx hb dX0_number_9 rfl (lv_at hl 0 rfl) ?_
    refine lv_iload_n hx hb dX0_number_10 rfl (lv_at hl 1 rfl) ?_
    refine lv_iload_n hx hb dX0_number_11 rfl (lv_at hl 2 rfl) ?_
    refine cu_rcall (As := [.int (nI x), .int (nI y)]) (rest := []) S (mX0_numberOf l h0 x y hx1 hy1) (cwX0_numberOf hts ⟨Nat.le_of_ble_eq_true rfl, Nat.le_of_ble_eq_true rfl⟩) (cu_preP (va_recv hK hP (ci := 0) (q0 := 0) rfl rfl)) rfl hl.1 rfl (Nat.le_of_ble_eq_true rfl) dX0_number_12 (Nat.zero_le _) (Nat.zero_le _) ?_
    refine lv_goto (tgt := 19) hx hb dX0_number_15 (by decide) ?_
    exact kret 19 ls (nI (cu_num x y)) dX0_number_19 (by rw [cu_cnum_ok hx1 hy1])
set_option maxHeartbeats 4000000 in
set_option maxRecDepth 100000 in
/-- pieces -/
theorem mX0_pieces (l : Launch) (D : va_G) (h0 a1 a2 a3 a4 a5 : Nat) (dB dS : ClassId) (C F L MF ML : Nat → Nat) (mc cx cy : Nat) (S0 : Nat → Nat → Bool) (hC : ∀ q, C q < 128) (hF : ∀ q, F q < 256) (hL : ∀ q, L q < 256) (hR : cu_RX C F L S0) (sv : Int32) : MetR l yX0_pieces cX0_pieces 5 .int rX0_pieces [.ref h0, .int sv] (bW D (tX dB dS) (wX h0 a1 a2 a3 a4 a5 dB dS C F L MF ML mc cx cy)) (cu_on (fun a => nI (fb_ct (cu_ps (S0 a)) 256)) sv) := by
  refine metR_of (by decide) (Nat.le_of_ble_eq_true rfl) (nb_narI _) ?_
  intro p e s m args below meth c H Q S hH hB kret ls hl
  have S : CallFix p m c cX0_pieces 5 s args lw_all RX0 := S
  have hx := S.1
  have hb := S.2.1
  have hts := S.2.2.2.2
  obtain ⟨hP, hK⟩ := hB
  rw [hH] at hP
  have hl : lv_has ls 5 [(0, .ref h0), (1, .int sv)] := hl
  refine lv_aload_n hx hb dX0_pieces_0 rfl (lv_at hl 0 rfl) ?_
  refine lv_iload_n hx hb dX0_pieces_1 rfl (lv_at hl 1 rfl) ?_
  refine cu_rcall (As := [.int sv]) (rest := []) S (mX0_isSet l h0 sv) (cwX0_isSet hts ⟨Nat.le_of_ble_eq_true rfl, Nat.le_of_ble_eq_true rfl⟩) (cu_preP (va_recv hK hP (ci := 0) (q0 := 0) rfl rfl)) rfl hl.1 rfl (Nat.le_of_ble_eq_true rfl) dX0_pieces_2 (Nat.zero_le _) (Nat.zero_le _) ?_
  refine nb_if_neB (tgt := 10) hx hb dX0_pieces_5 (by decide) (fun c1 => ?_) (fun c1 => ?_)
  · obtain ⟨a, ha, rfl⟩ := cu_ok_of c1
    obtain ⟨hk, hI⟩ := hR a ha
    have loop : ∀ (n : Nat) (j : Nat), j ≤ C a → C a - j < n → ∀ ls : Array Slot, lv_has ls 5 [(0, .ref h0), (1, .int (nI a)), (2, .int (nI (fb_ct (cu_ps (S0 a)) (cu_lo (fun j => L (40 * a + j)) j)))), (3, .int (nI (40 * a + j)))] → W p l e rX0_pieces s m args below meth c H [] 0 0 Q (F0 m 17 ls []) := by
      intro n
      induction n with
      | zero => intro j hj hm; exact absurd hm (Nat.not_lt_zero _)
      | succ n iho =>
        intro j hj hm ls hl
        refine lv_iload_n hx hb dX0_pieces_17 rfl (lv_at hl 3 rfl) ?_
        refine lv_bipush (v := nI 40) hx hb dX0_pieces_18 (by decide) ?_
        refine lv_iload_n hx hb dX0_pieces_20 rfl (lv_at hl 1 rfl) ?_
        refine nb_imul hx hb dX0_pieces_21 ?_
        refine lv_aload_n hx hb dX0_pieces_22 rfl (lv_at hl 0 rfl) ?_
        refine gX_0 S hK hP dX0_pieces_23 ?_
        refine lv_iload_n hx hb dX0_pieces_26 rfl (lv_at hl 1 rfl) ?_
        refine nb_bald hx hb hK hP 1 0 rfl rfl (by omega) (by decide) dX0_pieces_27 ?_
        have b_1 := hC a
        refine nb_iadd hx hb dX0_pieces_28 ?_
        refine nb_icmp_ge (tgt := 80) hx hb dX0_pieces_29 (by decide) (by omega) (by omega) (fun c2 => ?_) (fun c2 => ?_)
        · refine lv_iload_n hx hb dX0_pieces_80 rfl (lv_at hl 2 rfl) ?_
          exact kret 81 ls (nI (fb_ct (cu_ps (S0 a)) (cu_lo (fun j => L (40 * a + j)) j))) dX0_pieces_81 (by rw [cu_on_ok ha, ← cu_ps_end hI, show j = C a by omega])
        · have hIj : F (40 * a + j) ≤ L (40 * a + j) ∧ L (40 * a + j) < 256 := hI.1 j (by omega)
          have inner : ∀ (n : Nat) (t : Nat), F (40 * a + j) ≤ t → t ≤ L (40 * a + j) + 1 → (t ≤ L (40 * a + j) → cu_Bd (S0 a) t) → L (40 * a + j) + 1 - t < n → ∀ ls : Array Slot, lv_has ls 5 [(0, .ref h0), (1, .int (nI a)), (2, .int (nI (fb_ct (cu_ps (S0 a)) t))), (3, .int (nI (40 * a + j))), (4, .int (nI t))] → W p l e rX0_pieces s m args below meth c H [] 0 0 Q (F0 m 40 ls []) := by
            intro n
            induction n with
            | zero => intro t ht1 ht2 hBd hm; exact absurd hm (Nat.not_lt_zero _)
            | succ n ih =>
              intro t ht1 ht2 hBd hm ls hl
              refine lv_iload hx hb dX0_pieces_40 (lv_at hl 4 rfl) ?_
              refine lv_aload_n hx hb dX0_pieces_42 rfl (lv_at hl 0 rfl) ?_
              refine gX_2 S hK hP dX0_pieces_43 ?_
              refine lv_iload_n hx hb dX0_pieces_46 rfl (lv_at hl 3 rfl) ?_
              refine nb_sald hx hb hK hP 3 1 rfl rfl (by omega) (by decide) dX0_pieces_47 ?_
              have b_2 := hL (40 * a + j)
              refine nb_icmp_gt (tgt := 74) hx hb dX0_pieces_48 (by decide) (by omega) (by omega) (fun c3 => ?_) (fun c3 => ?_)
              · have et : t = L (40 * a + j) + 1 := by omega
                subst et
                refine lv_iinc (v := nI ((40 * a + j) + 1)) (lv' := [(3, .int (nI ((40 * a + j) + 1))), (0, .ref h0), (1, .int (nI a)), (2, .int (nI (fb_ct (cu_ps (S0 a)) (L (40 * a + j) + 1)))), (4, .int (nI (L (40 * a + j) + 1)))]) hx hb dX0_pieces_74 hl (k := 3) rfl (nI_1 _) (by decide) rfl (fun ls hl => ?_)
                refine lv_goto (tgt := 17) hx hb dX0_pieces_77 (by decide) ?_
                exact iho (j + 1) (by omega) (by omega) ls (lv_sub hl [1, 2, 3, 0] rfl)
              · have hst := cu_piece_step (S := S0 a) (at_ := t) (bd := L (40 * a + j)) hIj.2 (by omega) (fun n q1 q2 => hI.inn (j := j) (by omega) (show F (40 * a + j) ≤ n by omega) q2) (hI.next (j := j) (by omega)) (hBd (by omega))
                refine lv_iload hx hb dX0_pieces_51 (lv_at hl 4 rfl) ?_
                refine lv_aload_n hx hb dX0_pieces_53 rfl (lv_at hl 0 rfl) ?_
                refine lv_iload hx hb dX0_pieces_54 (lv_at hl 4 rfl) ?_
                refine lv_aload_n hx hb dX0_pieces_56 rfl (lv_at hl 0 rfl) ?_
                refine gX_2 S hK hP dX0_pieces_57 ?_
                refine lv_iload_n hx hb dX0_pieces_60 rfl (lv_at hl 3 rfl) ?_
                refine nb_sald hx hb hK hP 3 1 rfl rfl (by omega) (by decide) dX0_pieces_61 ?_
                have b_3 := hL (40 * a + j)
                refine cu_rcall (As := [.int (nI t), .int (nI (L (40 * a + j)))]) (rest := [.int (nI t)]) S (mX0_largestAt l h0 t (L (40 * a + j)) (by omega) (by omega)) (cwX0_largestAt hts ⟨Nat.le_of_ble_eq_true rfl, Nat.le_of_ble_eq_true rfl⟩) (cu_preP (va_recv hK hP (ci := 0) (q0 := 0) rfl rfl)) rfl hl.1 rfl (Nat.le_of_ble_eq_true rfl) dX0_pieces_62 (Nat.zero_le _) (Nat.zero_le _) ?_
                refine nb_top (y := nI (cu_sz (cu_lev (S0 a) t))) (by rw [cu_lgo_lev (S := S0 a) hIj.2 (by omega) (fun n q1 q2 => hI.inn (j := j) (by omega) (show F (40 * a + j) ≤ n by omega) q2) (hI.next (j := j) (by omega)) (hBd (by omega))]) ?_
                refine nb_iadd hx hb dX0_pieces_65 ?_
                refine lv_istore (lv' := [(4, .int (nI (t + (cu_sz (cu_lev (S0 a) t))))), (0, .ref h0), (1, .int (nI a)), (2, .int (nI (fb_ct (cu_ps (S0 a)) t))), (3, .int (nI (40 * a + j)))]) hx hb dX0_pieces_66 hl (by decide) rfl (fun ls hl => ?_)
                refine lv_iinc (v := nI ((fb_ct (cu_ps (S0 a)) t) + 1)) (lv' := [(2, .int (nI ((fb_ct (cu_ps (S0 a)) t) + 1))), (4, .int (nI (t + (cu_sz (cu_lev (S0 a) t))))), (0, .ref h0), (1, .int (nI a)), (3, .int (nI (40 * a + j)))]) hx hb dX0_pieces_68 hl (k := 3) rfl (nI_1 _) (by decide) rfl (fun ls hl => ?_)
                refine lv_goto (tgt := 40) hx hb dX0_pieces_71 (by decide) ?_
                have e2 : fb_ct (cu_ps (S0 a)) (t + cu_sz (cu_lev (S0 a) t)) = fb_ct (cu_ps (S0 a)) t + 1 := (cu_ct_same (by omega) (fun n q1 q2 => hst.2.2.2.1 n (by omega) q2)).trans (cu_ct_yes hst.1)
                rw [← e2] at hl
                exact ih (t + cu_sz (cu_lev (S0 a) t)) (by omega) hst.2.1 (fun _ => hst.2.2.2.2) (by omega) ls (lv_sub hl [2, 3, 0, 4, 1] rfl)
          refine lv_aload_n hx hb dX0_pieces_32 rfl (lv_at hl 0 rfl) ?_
          refine gX_1 S hK hP dX0_pieces_33 ?_
          refine lv_iload_n hx hb dX0_pieces_36 rfl (lv_at hl 3 rfl) ?_
          refine nb_sald hx hb hK hP 2 1 rfl rfl (by omega) (by decide) dX0_pieces_37 ?_
          have b_4 := hF (40 * a + j)
          refine lv_istore (lv' := [(4, .int (nI (F (40 * a + j)))), (0, .ref h0), (1, .int (nI a)), (2, .int (nI (fb_ct (cu_ps (S0 a)) (cu_lo (fun j => L (40 * a + j)) j)))), (3, .int (nI (40 * a + j)))]) hx hb dX0_pieces_38 hl (by decide) rfl (fun ls hl => ?_)
          have e3 : fb_ct (cu_ps (S0 a)) (F (40 * a + j)) = fb_ct (cu_ps (S0 a)) (cu_lo (fun j => L (40 * a + j)) j) := cu_ps_to hI (j := j) (by omega)
          rw [← e3] at hl
          exact inner (L (40 * a + j) + 2) (F (40 * a + j)) (Nat.le_refl _) (by omega) (fun _ => hI.Bd (j := j) (by omega)) (by omega) ls (lv_sub hl [1, 2, 3, 4, 0] rfl)
    refine lv_iconst (v := nI 0) hx hb dX0_pieces_10 (by decide) ?_
    refine lv_istore_n (lv' := [(2, .int (nI 0)), (0, .ref h0), (1, .int (nI a))]) hx hb dX0_pieces_11 rfl hl (by decide) rfl (fun ls hl => ?_)
    refine lv_bipush (v := nI 40) hx hb dX0_pieces_12 (by decide) ?_
    refine lv_iload_n hx hb dX0_pieces_14 rfl (lv_at hl 2 rfl) ?_
    refine nb_imul hx hb dX0_pieces_15 ?_
    refine lv_istore_n (lv' := [(3, .int (nI (40 * a))), (2, .int (nI 0)), (0, .ref h0), (1, .int (nI a))]) hx hb dX0_pieces_16 rfl hl (by decide) rfl (fun ls hl => ?_)
    exact loop (C a + 1) 0 (Nat.zero_le _) (by omega) ls (lv_sub hl [2, 3, 1, 0] rfl)
  · refine lv_iconst (v := (-1)) hx hb dX0_pieces_8 (by decide) ?_
    exact kret 9 ls (-1) dX0_pieces_9 (by rw [cu_on_no c1])
end
section
set_option maxHeartbeats 4000000 in
set_option maxRecDepth 100000 in
/-- piece -/
theorem mX0_piece (l : Launch) (D : va_G) (h0 a1 a2 a3 a4 a5 : Nat) (dB dS : ClassId) (C F L MF ML : Nat → Nat) (mc cx cy : Nat) (S0 : Nat → Nat → Bool) (hC : ∀ q, C q < 128) (hF : ∀ q, F q < 256) (hL : ∀ q, L q < 256) (hR : cu_RX C F L S0) (sv kv : Int32) : MetR l yX0_piece cX0_piece 7 .int rX0_piece [.ref h0, .int sv, .int kv] (bW D (tX dB dS) (wX h0 a1 a2 a3 a4 a5 dB dS C F L MF ML mc cx cy)) (cu_on (fun a => cu_sel (cu_ps (S0 a)) (fun n => nI (256 * cu_lev (S0 a) n + n)) kv) sv) := by
  refine metR_of (by decide) (Nat.le_of_ble_eq_true rfl) (nb_narI _) ?_
  intro p e s m args below meth c H Q S hH hB kret ls hl
  have S : CallFix p m c cX0_piece 7 s args lw_all RX0 := S
  have hx := S.1
  have hb := S.2.1
  have hts := S.2.2.2.2
  obtain ⟨hP, hK⟩ := hB
  rw [hH] at hP
  have hl : lv_has ls 7 [(0, .ref h0), (1, .int sv), (2, .int kv)] := hl
  refine lv_aload_n hx hb dX0_piece_0 rfl (lv_at hl 0 rfl) ?_
  refine lv_iload_n hx hb dX0_piece_1 rfl (lv_at hl 1 rfl) ?_
  refine cu_rcall (As := [.int sv]) (rest := []) S (mX0_isSet l h0 sv) (cwX0_isSet hts ⟨Nat.le_of_ble_eq_true rfl, Nat.le_of_ble_eq_true rfl⟩) (cu_preP (va_recv hK hP (ci := 0) (q0 := 0) rfl rfl)) rfl hl.1 rfl (Nat.le_of_ble_eq_true rfl) dX0_piece_2 (Nat.zero_le _) (Nat.zero_le _) ?_
  refine nb_if_neB (tgt := 10) hx hb dX0_piece_5 (by decide) (fun c1 => ?_) (fun c1 => ?_)
  · obtain ⟨a, ha, rfl⟩ := cu_ok_of c1
    obtain ⟨hk, hI⟩ := hR a ha
    have loop : ∀ (n : Nat) (j : Nat), j ≤ C a → (∀ n, n < cu_lo (fun j => L (40 * a + j)) j → cu_ps (S0 a) n = true → nI (fb_ct (cu_ps (S0 a)) n) ≠ kv) → C a - j < n → ∀ ls : Array Slot, lv_has ls 7 [(0, .ref h0), (1, .int (nI a)), (3, .int (kv - nI (fb_ct (cu_ps (S0 a)) (cu_lo (fun j => L (40 * a + j)) j)))), (4, .int (nI (40 * a + j)))] → W p l e rX0_piece s m args below meth c H [] 0 0 Q (F0 m 18 ls []) := by
      intro n
      induction n with
      | zero => intro j hj hno hm; exact absurd hm (Nat.not_lt_zero _)
      | succ n iho =>
        intro j hj hno hm ls hl
        refine lv_iload hx hb dX0_piece_18 (lv_at hl 3 rfl) ?_
        refine lv_bipush (v := nI 40) hx hb dX0_piece_20 (by decide) ?_
        refine lv_iload_n hx hb dX0_piece_22 rfl (lv_at hl 1 rfl) ?_
        refine nb_imul hx hb dX0_piece_23 ?_
        refine lv_aload_n hx hb dX0_piece_24 rfl (lv_at hl 0 rfl) ?_
        refine gX_0 S hK hP dX0_piece_25 ?_
        refine lv_iload_n hx hb dX0_piece_28 rfl (lv_at hl 1 rfl) ?_
        refine nb_bald hx hb hK hP 1 0 rfl rfl (by omega) (by decide) dX0_piece_29 ?_
        have b_1 := hC a
        refine nb_iadd hx hb dX0_piece_30 ?_
        refine nb_icmp_ge (tgt := 107) hx hb dX0_piece_31 (by decide) (by omega) (by omega) (fun c2 => ?_) (fun c2 => ?_)
        · have ej : j = C a := by omega
          subst ej
          refine lv_bipush (v := (-3)) hx hb dX0_piece_107 (by decide) ?_
          exact kret 109 ls (-3) dX0_piece_109 (by rw [cu_on_ok ha, cu_sel_no (fun n q1 q2 => by
                rcases Nat.lt_or_ge n (cu_lo (fun j => L (40 * a + j)) (C a)) with r | r
                · exact hno n r q2
                · rw [cu_ps_S (hI.fin r)] at q2; exact absurd q2 (by decide))])
        · have hIj : F (40 * a + j) ≤ L (40 * a + j) ∧ L (40 * a + j) < 256 := hI.1 j (by omega)
          have inner : ∀ (n : Nat) (t : Nat), F (40 * a + j) ≤ t → t ≤ L (40 * a + j) + 1 → (t ≤ L (40 * a + j) → cu_Bd (S0 a) t) → (∀ n, n < t → cu_ps (S0 a) n = true → nI (fb_ct (cu_ps (S0 a)) n) ≠ kv) → L (40 * a + j) + 1 - t < n → ∀ ls : Array Slot, lv_has ls 7 [(0, .ref h0), (1, .int (nI a)), (3, .int (kv - nI (fb_ct (cu_ps (S0 a)) t))), (4, .int (nI (40 * a + j))), (5, .int (nI t))] → W p l e rX0_piece s m args below meth c H [] 0 0 Q (F0 m 43 ls []) := by
            intro n
            induction n with
            | zero => intro t ht1 ht2 hBd hno2 hm; exact absurd hm (Nat.not_lt_zero _)
            | succ n ih =>
              intro t ht1 ht2 hBd hno2 hm ls hl
              refine lv_iload hx hb dX0_piece_43 (lv_at hl 4 rfl) ?_
              refine lv_aload_n hx hb dX0_piece_45 rfl (lv_at hl 0 rfl) ?_
              refine gX_2 S hK hP dX0_piece_46 ?_
              refine lv_iload hx hb dX0_piece_49 (lv_at hl 3 rfl) ?_
              refine nb_sald hx hb hK hP 3 1 rfl rfl (by omega) (by decide) dX0_piece_51 ?_
              have b_2 := hL (40 * a + j)
              refine nb_icmp_gt (tgt := 101) hx hb dX0_piece_52 (by decide) (by omega) (by omega) (fun c3 => ?_) (fun c3 => ?_)
              · have et : t = L (40 * a + j) + 1 := by omega
                subst et
                refine lv_iinc (v := nI ((40 * a + j) + 1)) (lv' := [(4, .int (nI ((40 * a + j) + 1))), (0, .ref h0), (1, .int (nI a)), (3, .int (kv - nI (fb_ct (cu_ps (S0 a)) (L (40 * a + j) + 1)))), (5, .int (nI (L (40 * a + j) + 1)))]) hx hb dX0_piece_101 hl (k := 3) rfl (nI_1 _) (by decide) rfl (fun ls hl => ?_)
                refine lv_goto (tgt := 18) hx hb dX0_piece_104 (by decide) ?_
                exact iho (j + 1) (by omega) hno2 (by omega) ls (lv_sub hl [1, 2, 3, 0] rfl)
              · have hst := cu_piece_step (S := S0 a) (at_ := t) (bd := L (40 * a + j)) hIj.2 (by omega) (fun n q1 q2 => hI.inn (j := j) (by omega) (show F (40 * a + j) ≤ n by omega) q2) (hI.next (j := j) (by omega)) (hBd (by omega))
                refine lv_aload_n hx hb dX0_piece_55 rfl (lv_at hl 0 rfl) ?_
                refine lv_iload hx hb dX0_piece_56 (lv_at hl 4 rfl) ?_
                refine lv_aload_n hx hb dX0_piece_58 rfl (lv_at hl 0 rfl) ?_
                refine gX_2 S hK hP dX0_piece_59 ?_
                refine lv_iload hx hb dX0_piece_62 (lv_at hl 3 rfl) ?_
                refine nb_sald hx hb hK hP 3 1 rfl rfl (by omega) (by decide) dX0_piece_64 ?_
                have b_3 := hL (40 * a + j)
                refine cu_rcall (As := [.int (nI t), .int (nI (L (40 * a + j)))]) (rest := []) S (mX0_largestAt l h0 t (L (40 * a + j)) (by omega) (by omega)) (cwX0_largestAt hts ⟨Nat.le_of_ble_eq_true rfl, Nat.le_of_ble_eq_true rfl⟩) (cu_preP (va_recv hK hP (ci := 0) (q0 := 0) rfl rfl)) rfl hl.1 rfl (Nat.le_of_ble_eq_true rfl) dX0_piece_65 (Nat.zero_le _) (Nat.zero_le _) ?_
                refine nb_top (y := nI (cu_sz (cu_lev (S0 a) t))) (by rw [cu_lgo_lev (S := S0 a) hIj.2 (by omega) (fun n q1 q2 => hI.inn (j := j) (by omega) (show F (40 * a + j) ≤ n by omega) q2) (hI.next (j := j) (by omega)) (hBd (by omega))]) ?_
                refine lv_istore (lv' := [(6, .int (nI (cu_sz (cu_lev (S0 a) t)))), (0, .ref h0), (1, .int (nI a)), (3, .int (kv - nI (fb_ct (cu_ps (S0 a)) t))), (4, .int (nI (40 * a + j))), (5, .int (nI t))]) hx hb dX0_piece_68 hl (by decide) rfl (fun ls hl => ?_)
                refine lv_iload_n hx hb dX0_piece_70 rfl (lv_at hl 3 rfl) ?_
                refine lv_if_ne (tgt := 88) hx hb dX0_piece_71 (by decide) (fun c4 => ?_) (fun c4 => ?_)
                · have e2 : fb_ct (cu_ps (S0 a)) (t + cu_sz (cu_lev (S0 a) t)) = fb_ct (cu_ps (S0 a)) t + 1 := (cu_ct_same (by omega) (fun n q1 q2 => hst.2.2.2.1 n (by omega) q2)).trans (cu_ct_yes hst.1)
                  refine lv_iinc (v := kv - nI (fb_ct (cu_ps (S0 a)) (t + cu_sz (cu_lev (S0 a) t)))) (lv' := [(3, .int (kv - nI (fb_ct (cu_ps (S0 a)) (t + cu_sz (cu_lev (S0 a) t))))), (6, .int (nI (cu_sz (cu_lev (S0 a) t)))), (0, .ref h0), (1, .int (nI a)), (4, .int (nI (40 * a + j))), (5, .int (nI t))]) hx hb dX0_piece_88 hl (k := 3) rfl (by rw [e2]; exact cu_dec _ _) (by decide) rfl (fun ls hl => ?_)
                  refine lv_iload hx hb dX0_piece_91 (lv_at hl 5 rfl) ?_
                  refine lv_iload hx hb dX0_piece_93 (lv_at hl 1 rfl) ?_
                  refine nb_iadd hx hb dX0_piece_95 ?_
                  refine lv_istore (lv' := [(5, .int (nI (t + (cu_sz (cu_lev (S0 a) t))))), (3, .int (kv - nI (fb_ct (cu_ps (S0 a)) (t + cu_sz (cu_lev (S0 a) t))))), (6, .int (nI (cu_sz (cu_lev (S0 a) t)))), (0, .ref h0), (1, .int (nI a)), (4, .int (nI (40 * a + j)))]) hx hb dX0_piece_96 hl (by decide) rfl (fun ls hl => ?_)
                  refine lv_goto (tgt := 43) hx hb dX0_piece_98 (by decide) ?_
                  exact ih (t + cu_sz (cu_lev (S0 a) t)) (by omega) hst.2.1 (fun _ => hst.2.2.2.2) (fun n q1 q2 => by
                      rcases Nat.lt_trichotomy n t with r | r | r
                      · exact hno2 n r q2
                      · subst r; exact cu_left1 c4
                      · rw [hst.2.2.2.1 n r q1] at q2; exact absurd q2 (by decide)) (by omega) ls (lv_sub hl [3, 4, 1, 5, 0] rfl)
                · refine lv_sipush (v := nI 256) hx hb dX0_piece_74 (by decide) ?_
                  refine lv_aload_n hx hb dX0_piece_77 rfl (lv_at hl 1 rfl) ?_
                  refine lv_iload hx hb dX0_piece_78 (lv_at hl 0 rfl) ?_
                  refine cu_rcall (As := [.int (nI (cu_sz (cu_lev (S0 a) t)))]) (rest := [.int (nI 256)]) S (mX0_levelOf l h0 (cu_lev (S0 a) t) (cu_lev_le _ _)) (cwX0_levelOf hts ⟨Nat.le_of_ble_eq_true rfl, Nat.le_of_ble_eq_true rfl⟩) (cu_preP (va_recv hK hP (ci := 0) (q0 := 0) rfl rfl)) rfl hl.1 rfl (Nat.le_of_ble_eq_true rfl) dX0_piece_80 (Nat.zero_le _) (Nat.zero_le _) ?_
                  refine nb_imul hx hb dX0_piece_83 ?_
                  refine lv_iload hx hb dX0_piece_84 (lv_at hl 5 rfl) ?_
                  refine nb_iadd hx hb dX0_piece_86 ?_
                  exact kret 87 ls (nI ((256 * (cu_lev (S0 a) t)) + t)) dX0_piece_87 (by rw [cu_on_ok ha, cu_sel_at (n := t) (by omega) hst.1 (cu_left0 c4)])
          refine lv_aload_n hx hb dX0_piece_34 rfl (lv_at hl 0 rfl) ?_
          refine gX_1 S hK hP dX0_piece_35 ?_
          refine lv_iload hx hb dX0_piece_38 (lv_at hl 3 rfl) ?_
          refine nb_sald hx hb hK hP 2 1 rfl rfl (by omega) (by decide) dX0_piece_40 ?_
          have b_4 := hF (40 * a + j)
          refine lv_istore (lv' := [(5, .int (nI (F (40 * a + j)))), (0, .ref h0), (1, .int (nI a)), (3, .int (kv - nI (fb_ct (cu_ps (S0 a)) (cu_lo (fun j => L (40 * a + j)) j)))), (4, .int (nI (40 * a + j)))]) hx hb dX0_piece_41 hl (by decide) rfl (fun ls hl => ?_)
          have e3 : fb_ct (cu_ps (S0 a)) (F (40 * a + j)) = fb_ct (cu_ps (S0 a)) (cu_lo (fun j => L (40 * a + j)) j) := cu_ps_to hI (j := j) (by omega)
          rw [← e3] at hl
          exact inner (L (40 * a + j) + 2) (F (40 * a + j)) (Nat.le_refl _) (by omega) (fun _ => hI.Bd (j := j) (by omega)) (fun n q1 q2 => by
              rcases Nat.lt_or_ge n (cu_lo (fun j => L (40 * a + j)) j) with r | r
              · exact hno n r q2
              · rw [cu_ps_S (hI.gap (j := j) (by omega) r q1)] at q2; exact absurd q2 (by decide)) (by omega) ls (lv_sub hl [1, 2, 3, 4, 0] rfl)
    refine lv_iload_n hx hb dX0_piece_10 rfl (lv_at hl 2 rfl) ?_
    refine lv_istore_n (lv' := [(3, .int kv), (0, .ref h0), (1, .int (nI a)), (2, .int kv)]) hx hb dX0_piece_11 rfl hl (by decide) rfl (fun ls hl => ?_)
    refine lv_bipush (v := nI 40) hx hb dX0_piece_12 (by decide) ?_
    refine lv_iload_n hx hb dX0_piece_14 rfl (lv_at hl 2 rfl) ?_
    refine nb_imul hx hb dX0_piece_15 ?_
    refine lv_istore (lv' := [(4, .int (nI (40 * a))), (3, .int kv), (0, .ref h0), (1, .int (nI a)), (2, .int kv)]) hx hb dX0_piece_16 hl (by decide) rfl (fun ls hl => ?_)
    have hl : lv_has ls 7 [(4, .int (nI (40 * a))), (3, .int (kv - nI (fb_ct (cu_ps (S0 a)) (cu_lo (fun j => L (40 * a + j)) 0)))), (0, .ref h0), (1, .int (nI a)), (2, .int kv)] := by rw [show kv - nI (fb_ct (cu_ps (S0 a)) (cu_lo (fun j => L (40 * a + j)) 0)) = kv from (show kv - 0 = kv by grind)]; exact hl
    exact loop (C a + 1) 0 (Nat.zero_le _) (fun n q => absurd q (Nat.not_lt_zero _)) (by omega) ls (lv_sub hl [2, 3, 1, 0] rfl)
  · refine lv_iconst (v := (-1)) hx hb dX0_piece_8 (by decide) ?_
    exact kret 9 ls (-1) dX0_piece_9 (by rw [cu_on_no c1])
set_option maxHeartbeats 4000000 in
set_option maxRecDepth 100000 in
/-- touched -/
theorem mX0_touched (l : Launch) (D : va_G) (h0 a1 a2 a3 a4 a5 : Nat) (dB dS : ClassId) (C F L MF ML : Nat → Nat) (mc cx cy : Nat) (S0 : Nat → Nat → Bool) (hC : ∀ q, C q < 128) (hF : ∀ q, F q < 256) (hL : ∀ q, L q < 256) (hR : cu_RX C F L S0) (sv lv : Int32) : MetR l yX0_touched cX0_touched 9 .int rX0_touched [.ref h0, .int sv, .int lv] (bW D (tX dB dS) (wX h0 a1 a2 a3 a4 a5 dB dS C F L MF ML mc cx cy)) (cu_on (fun a => cu_lv (fun v => nI (fb_ct (cu_fb (S0 a) (cu_sz v)) 256)) lv) sv) := by
  refine metR_of (by decide) (Nat.le_of_ble_eq_true rfl) (nb_narI _) ?_
  intro p e s m args below meth c H Q S hH hB kret ls hl
  have S : CallFix p m c cX0_touched 9 s args lw_all RX0 := S
  have hx := S.1
  have hb := S.2.1
  have hts := S.2.2.2.2
  obtain ⟨hP, hK⟩ := hB
  rw [hH] at hP
  have hl : lv_has ls 9 [(0, .ref h0), (1, .int sv), (2, .int lv)] := hl
  have k17 : cu_on (fun a => cu_lv (fun v => nI (fb_ct (cu_fb (S0 a) (cu_sz v)) 256)) lv) sv = -1 → ∀ ls : Array Slot, W p l e rX0_touched s m args below meth c H [] 0 0 Q (F0 m 17 ls []) := by
    intro hq ls
    refine lv_iconst (v := (-1)) hx hb dX0_touched_17 (by decide) ?_
    exact kret 18 ls (-1) dX0_touched_18 (by rw [hq])
  refine lv_aload_n hx hb dX0_touched_0 rfl (lv_at hl 0 rfl) ?_
  refine lv_iload_n hx hb dX0_touched_1 rfl (lv_at hl 1 rfl) ?_
  refine cu_rcall (As := [.int sv]) (rest := []) S (mX0_isSet l h0 sv) (cwX0_isSet hts ⟨Nat.le_of_ble_eq_true rfl, Nat.le_of_ble_eq_true rfl⟩) (cu_preP (va_recv hK hP (ci := 0) (q0 := 0) rfl rfl)) rfl hl.1 rfl (Nat.le_of_ble_eq_true rfl) dX0_touched_2 (Nat.zero_le _) (Nat.zero_le _) ?_
  refine nb_if_eqB (tgt := 17) hx hb dX0_touched_5 (by decide) (fun c1 => ?_) (fun c1 => ?_)
  · exact k17 (cu_on_no c1) ls
  · obtain ⟨a, ha, rfl⟩ := cu_ok_of c1
    obtain ⟨hk, hI⟩ := hR a ha
    refine lv_iload_n hx hb dX0_touched_8 rfl (lv_at hl 2 rfl) ?_
    refine lv_if_lt (tgt := 17) hx hb dX0_touched_9 (by decide) (fun c2 => ?_) (fun c2 => ?_)
    · exact k17 (by rw [cu_on_ok ha, cu_lv, if_neg (fun q => q.1 c2)]) ls
    · refine lv_iload_n hx hb dX0_touched_12 rfl (lv_at hl 2 rfl) ?_
      refine lv_iconst (v := nI 4) hx hb dX0_touched_13 (by decide) ?_
      refine lv_icmp_le (tgt := 19) hx hb dX0_touched_14 (by decide) (fun c3 => ?_) (fun c3 => ?_)
      · obtain ⟨v, hv, rfl⟩ := cu_of_to (n := 4) (by omega) c2 (cu_le_nlt c3)
        have loop : ∀ (n : Nat) (j : Nat), j ≤ C a → C a - j < n → ∀ ls : Array Slot, lv_has ls 9 [(0, .ref h0), (1, .int (nI a)), (3, .int (nI (8 - 2 * v))), (4, .int (nI (fb_ct (cu_fb (S0 a) (cu_sz v)) (cu_lo (fun j => L (40 * a + j)) j)))), (5, .int (cu_bf (fun j => L (40 * a + j)) (cu_sz v) j)), (6, .int (nI (40 * a + j)))] → W p l e rX0_touched s m args below meth c H [] 0 0 Q (F0 m 38 ls []) := by
          intro n
          induction n with
          | zero => intro j hj hm; exact absurd hm (Nat.not_lt_zero _)
          | succ n ih =>
            intro j hj hm ls hl
            refine lv_iload hx hb dX0_touched_38 (lv_at hl 5 rfl) ?_
            refine lv_bipush (v := nI 40) hx hb dX0_touched_40 (by decide) ?_
            refine lv_iload_n hx hb dX0_touched_42 rfl (lv_at hl 1 rfl) ?_
            refine nb_imul hx hb dX0_touched_43 ?_
            refine lv_aload_n hx hb dX0_touched_44 rfl (lv_at hl 0 rfl) ?_
            refine gX_0 S hK hP dX0_touched_45 ?_
            refine lv_iload_n hx hb dX0_touched_48 rfl (lv_at hl 1 rfl) ?_
            refine nb_bald hx hb hK hP 1 0 rfl rfl (by omega) (by decide) dX0_touched_49 ?_
            have b_1 := hC a
            refine nb_iadd hx hb dX0_touched_50 ?_
            refine nb_icmp_ge (tgt := 108) hx hb dX0_touched_51 (by decide) (by omega) (by omega) (fun c4 => ?_) (fun c4 => ?_)
            · refine lv_iload hx hb dX0_touched_108 (lv_at hl 3 rfl) ?_
              exact kret 110 ls (nI (fb_ct (cu_fb (S0 a) (cu_sz v)) (cu_lo (fun j => L (40 * a + j)) j))) dX0_touched_110 (by rw [cu_on_ok ha, cu_lv_ok hv, ← hI.tch_end, show j = C a by omega])
            · have hIj : F (40 * a + j) ≤ L (40 * a + j) ∧ L (40 * a + j) < 256 := hI.1 j (by omega)
              have hdv : F (40 * a + j) / cu_sz v ≤ L (40 * a + j) / cu_sz v := Nat.div_le_div_right hIj.1
              refine lv_aload_n hx hb dX0_touched_54 rfl (lv_at hl 0 rfl) ?_
              refine gX_1 S hK hP dX0_touched_55 ?_
              refine lv_iload hx hb dX0_touched_58 (lv_at hl 5 rfl) ?_
              refine nb_sald hx hb hK hP 2 1 rfl rfl (by omega) (by decide) dX0_touched_60 ?_
              have b_2 := hF (40 * a + j)
              refine lv_iload_n hx hb dX0_touched_61 rfl (lv_at hl 2 rfl) ?_
              refine nb_ishr hx hb dX0_touched_62 (by omega) (by omega) ?_
              refine nb_top (y := nI (F (40 * a + j) / cu_sz v)) (by rw [cu_sz_sh hv]) ?_
              refine lv_istore (lv' := [(7, .int (nI (F (40 * a + j) / cu_sz v))), (0, .ref h0), (1, .int (nI a)), (3, .int (nI (8 - 2 * v))), (4, .int (nI (fb_ct (cu_fb (S0 a) (cu_sz v)) (cu_lo (fun j => L (40 * a + j)) j)))), (5, .int (cu_bf (fun j => L (40 * a + j)) (cu_sz v) j)), (6, .int (nI (40 * a + j)))]) hx hb dX0_touched_63 hl (by decide) rfl (fun ls hl => ?_)
              refine lv_aload_n hx hb dX0_touched_65 rfl (lv_at hl 1 rfl) ?_
              refine gX_2 S hK hP dX0_touched_66 ?_
              refine lv_iload hx hb dX0_touched_69 (lv_at hl 6 rfl) ?_
              refine nb_sald hx hb hK hP 3 1 rfl rfl (by omega) (by decide) dX0_touched_71 ?_
              have b_3 := hL (40 * a + j)
              refine lv_iload_n hx hb dX0_touched_72 rfl (lv_at hl 3 rfl) ?_
              refine nb_ishr hx hb dX0_touched_73 (by omega) (by omega) ?_
              refine nb_top (y := nI (L (40 * a + j) / cu_sz v)) (by rw [cu_sz_sh hv]) ?_
              have hbf := cu_bf_eq (L := (fun j => L (40 * a + j))) (z := cu_sz v) (j := j) (y := F (40 * a + j) / cu_sz v) (fun q => hL (40 * a + q)) (Nat.lt_of_le_of_lt (Nat.div_le_self _ _) (by omega))
              refine lv_istore (lv' := [(8, .int (nI (L (40 * a + j) / cu_sz v))), (7, .int (nI (F (40 * a + j) / cu_sz v))), (0, .ref h0), (1, .int (nI a)), (3, .int (nI (8 - 2 * v))), (4, .int (nI (fb_ct (cu_fb (S0 a) (cu_sz v)) (cu_lo (fun j => L (40 * a + j)) j)))), (5, .int (cu_bf (fun j => L (40 * a + j)) (cu_sz v) j)), (6, .int (nI (40 * a + j)))]) hx hb dX0_touched_74 hl (by decide) rfl (fun ls hl => ?_)
              refine lv_iload hx hb dX0_touched_76 (lv_at hl 1 rfl) ?_
              refine lv_iload hx hb dX0_touched_78 (lv_at hl 6 rfl) ?_
              refine lv_icmp_ne (tgt := 86) hx hb dX0_touched_80 (by decide) (fun c5 => ?_) (fun c5 => ?_)
              · refine lv_iload hx hb dX0_touched_86 (lv_at hl 5 rfl) ?_
                refine lv_iload hx hb dX0_touched_88 (lv_at hl 0 rfl) ?_
                refine lv_iload hx hb dX0_touched_90 (lv_at hl 1 rfl) ?_
                refine lv_isub hx hb dX0_touched_92 ?_
                refine lv_iconst (v := nI 1) hx hb dX0_touched_93 (by decide) ?_
                refine lv_iadd hx hb dX0_touched_94 ?_
                refine lv_iadd hx hb dX0_touched_95 ?_
                refine nb_top (y := nI (fb_ct (cu_fb (S0 a) (cu_sz v)) (cu_lo (fun j => L (40 * a + j)) (j + 1)))) (by rw [hI.tch_step hv (show j < C a by omega), if_neg (fun q => c5 (hbf.mpr q))]; exact cu_tch1 hdv) ?_
                refine lv_istore (lv' := [(4, .int (nI (fb_ct (cu_fb (S0 a) (cu_sz v)) (cu_lo (fun j => L (40 * a + j)) (j + 1))))), (8, .int (nI (L (40 * a + j) / cu_sz v))), (7, .int (nI (F (40 * a + j) / cu_sz v))), (0, .ref h0), (1, .int (nI a)), (3, .int (nI (8 - 2 * v))), (5, .int (cu_bf (fun j => L (40 * a + j)) (cu_sz v) j)), (6, .int (nI (40 * a + j)))]) hx hb dX0_touched_96 hl (by decide) rfl (fun ls hl => ?_)
                refine lv_iload hx hb dX0_touched_98 (lv_at hl 1 rfl) ?_
                refine lv_istore (lv' := [(5, .int (nI (L (40 * a + j) / cu_sz v))), (4, .int (nI (fb_ct (cu_fb (S0 a) (cu_sz v)) (cu_lo (fun j => L (40 * a + j)) (j + 1))))), (8, .int (nI (L (40 * a + j) / cu_sz v))), (7, .int (nI (F (40 * a + j) / cu_sz v))), (0, .ref h0), (1, .int (nI a)), (3, .int (nI (8 - 2 * v))), (6, .int (nI (40 * a + j)))]) hx hb dX0_touched_100 hl (by decide) rfl (fun ls hl => ?_)
                refine lv_iinc (v := nI ((40 * a + j) + 1)) (lv' := [(6, .int (nI ((40 * a + j) + 1))), (5, .int (nI (L (40 * a + j) / cu_sz v))), (4, .int (nI (fb_ct (cu_fb (S0 a) (cu_sz v)) (cu_lo (fun j => L (40 * a + j)) (j + 1))))), (8, .int (nI (L (40 * a + j) / cu_sz v))), (7, .int (nI (F (40 * a + j) / cu_sz v))), (0, .ref h0), (1, .int (nI a)), (3, .int (nI (8 - 2 * v)))]) hx hb dX0_touched_102 hl (k := 7) rfl (nI_1 _) (by decide) rfl (fun ls hl => ?_)
                refine lv_goto (tgt := 38) hx hb dX0_touched_105 (by decide) ?_
                exact ih (j + 1) (by omega) (by omega) ls (lv_sub hl [5, 6, 7, 2, 1, 0] rfl)
              · refine lv_iinc (v := nI ((F (40 * a + j) / cu_sz v) + 1)) (lv' := [(7, .int (nI ((F (40 * a + j) / cu_sz v) + 1))), (8, .int (nI (L (40 * a + j) / cu_sz v))), (0, .ref h0), (1, .int (nI a)), (3, .int (nI (8 - 2 * v))), (4, .int (nI (fb_ct (cu_fb (S0 a) (cu_sz v)) (cu_lo (fun j => L (40 * a + j)) j)))), (5, .int (cu_bf (fun j => L (40 * a + j)) (cu_sz v) j)), (6, .int (nI (40 * a + j)))]) hx hb dX0_touched_83 hl (k := 1) rfl (nI_1 _) (by decide) rfl (fun ls hl => ?_)
                refine lv_iload hx hb dX0_touched_86 (lv_at hl 5 rfl) ?_
                refine lv_iload hx hb dX0_touched_88 (lv_at hl 1 rfl) ?_
                refine lv_iload hx hb dX0_touched_90 (lv_at hl 0 rfl) ?_
                refine lv_isub hx hb dX0_touched_92 ?_
                refine lv_iconst (v := nI 1) hx hb dX0_touched_93 (by decide) ?_
                refine lv_iadd hx hb dX0_touched_94 ?_
                refine lv_iadd hx hb dX0_touched_95 ?_
                refine nb_top (y := nI (fb_ct (cu_fb (S0 a) (cu_sz v)) (cu_lo (fun j => L (40 * a + j)) (j + 1)))) (by rw [hI.tch_step hv (show j < C a by omega), if_pos (hbf.mp c5)]; exact cu_tch0 hdv) ?_
                refine lv_istore (lv' := [(4, .int (nI (fb_ct (cu_fb (S0 a) (cu_sz v)) (cu_lo (fun j => L (40 * a + j)) (j + 1))))), (7, .int (nI ((F (40 * a + j) / cu_sz v) + 1))), (8, .int (nI (L (40 * a + j) / cu_sz v))), (0, .ref h0), (1, .int (nI a)), (3, .int (nI (8 - 2 * v))), (5, .int (cu_bf (fun j => L (40 * a + j)) (cu_sz v) j)), (6, .int (nI (40 * a + j)))]) hx hb dX0_touched_96 hl (by decide) rfl (fun ls hl => ?_)
                refine lv_iload hx hb dX0_touched_98 (lv_at hl 2 rfl) ?_
                refine lv_istore (lv' := [(5, .int (nI (L (40 * a + j) / cu_sz v))), (4, .int (nI (fb_ct (cu_fb (S0 a) (cu_sz v)) (cu_lo (fun j => L (40 * a + j)) (j + 1))))), (7, .int (nI ((F (40 * a + j) / cu_sz v) + 1))), (8, .int (nI (L (40 * a + j) / cu_sz v))), (0, .ref h0), (1, .int (nI a)), (3, .int (nI (8 - 2 * v))), (6, .int (nI (40 * a + j)))]) hx hb dX0_touched_100 hl (by decide) rfl (fun ls hl => ?_)
                refine lv_iinc (v := nI ((40 * a + j) + 1)) (lv' := [(6, .int (nI ((40 * a + j) + 1))), (5, .int (nI (L (40 * a + j) / cu_sz v))), (4, .int (nI (fb_ct (cu_fb (S0 a) (cu_sz v)) (cu_lo (fun j => L (40 * a + j)) (j + 1))))), (7, .int (nI ((F (40 * a + j) / cu_sz v) + 1))), (8, .int (nI (L (40 * a + j) / cu_sz v))), (0, .ref h0), (1, .int (nI a)), (3, .int (nI (8 - 2 * v)))]) hx hb dX0_touched_102 hl (k := 7) rfl (nI_1 _) (by decide) rfl (fun ls hl => ?_)
                refine lv_goto (tgt := 38) hx hb dX0_touched_105 (by decide) ?_
                exact ih (j + 1) (by omega) (by omega) ls (lv_sub hl [5, 6, 7, 2, 1, 0] rfl)
        refine lv_bipush (v := nI 8) hx hb dX0_touched_19 (by decide) ?_
        refine lv_iconst (v := nI 2) hx hb dX0_touched_21 (by decide) ?_
        refine lv_iload_n hx hb dX0_touched_22 rfl (lv_at hl 2 rfl) ?_
        refine nb_imul hx hb dX0_touched_23 ?_
        refine nb_isub hx hb dX0_touched_24 (by omega) ?_
        refine lv_istore_n (lv' := [(3, .int (nI (8 - (2 * v)))), (0, .ref h0), (1, .int (nI a)), (2, .int (nI v))]) hx hb dX0_touched_25 rfl hl (by decide) rfl (fun ls hl => ?_)
        refine lv_iconst (v := nI 0) hx hb dX0_touched_26 (by decide) ?_
        refine lv_istore (lv' := [(4, .int (nI 0)), (3, .int (nI (8 - (2 * v)))), (0, .ref h0), (1, .int (nI a)), (2, .int (nI v))]) hx hb dX0_touched_27 hl (by decide) rfl (fun ls hl => ?_)
        refine lv_iconst (v := (-1)) hx hb dX0_touched_29 (by decide) ?_
        refine lv_istore (lv' := [(5, .int (-1)), (4, .int (nI 0)), (3, .int (nI (8 - (2 * v)))), (0, .ref h0), (1, .int (nI a)), (2, .int (nI v))]) hx hb dX0_touched_30 hl (by decide) rfl (fun ls hl => ?_)
        refine lv_bipush (v := nI 40) hx hb dX0_touched_32 (by decide) ?_
        refine lv_iload_n hx hb dX0_touched_34 rfl (lv_at hl 4 rfl) ?_
        refine nb_imul hx hb dX0_touched_35 ?_
        refine lv_istore (lv' := [(6, .int (nI (40 * a))), (5, .int (-1)), (4, .int (nI 0)), (3, .int (nI (8 - (2 * v)))), (0, .ref h0), (1, .int (nI a)), (2, .int (nI v))]) hx hb dX0_touched_36 hl (by decide) rfl (fun ls hl => ?_)
        exact loop (C a + 1) 0 (Nat.zero_le _) (by omega) ls (lv_sub hl [4, 5, 3, 2, 1, 0] rfl)
      · exact k17 (by rw [cu_on_ok ha, cu_lv, if_neg (fun q => q.2 (fa_of_nle c3))]) ls
end
section
set_option maxHeartbeats 4000000 in
set_option maxRecDepth 100000 in
/-- find -/
theorem mX0_find (l : Launch) (D : va_G) (h0 a1 a2 a3 a4 a5 : Nat) (dB dS : ClassId) (C F L MF ML : Nat → Nat) (mc cx cy : Nat) (sz n_ : Nat) (hn : n_ < 256) : MetV l yX0_find cX0_find 7 rX0_find [.ref h0, .int (nI n_)] D (tX dB dS) (wX h0 a1 a2 a3 a4 a5 dB dS C F L MF ML mc cx cy) (uX h0 a1 a2 a3 a4 a5 dB dS) sz (fun u => u = (C, F, L, MF, ML, mc, (cu_fgo 4 n_ 1 0 0).1, (cu_fgo 4 n_ 1 0 0).2)) := by
  refine metV_of (by decide) (Nat.le_of_ble_eq_true rfl) ?_
  intro p e s m args below meth c A H0 Q S hK hA hP hD hS kret ls hl
  have S : CallFix p m c cX0_find 7 s args lw_all RX0 := S
  have hx := S.1
  have hb := S.2.1
  have hts := S.2.2.2.2
  have hl : lv_has ls 7 [(0, .ref h0), (1, .int (nI n_))] := hl
  have loop : ∀ (n : Nat) (f r w X Y : Nat), (f = 0 ∧ w = 16) ∨ (f = 1 ∧ w = 8) ∨ (f = 2 ∧ w = 4) ∨ (f = 3 ∧ w = 2) ∨ (f = 4 ∧ w = 1) → r < 256 → X < w → Y < w → cu_fgo f r w X Y = (cu_fgo 4 n_ 1 0 0) → f < n → ∀ (H : Heap) (locs : List Loc), va_P D vwCl (wX h0 a1 a2 a3 a4 a5 dB dS C F L MF ML mc X Y) H → va_D A (wX h0 a1 a2 a3 a4 a5 dB dS C F L MF ML mc X Y) → va_S A H0 H locs → ∀ ls : Array Slot, lv_has ls 7 [(0, .ref h0), (2, .int (nI r)), (3, .int (nI w))] → W p l e rX0_find s m args below meth c H locs 0 0 Q (F0 m 14 ls []) := by
    intro n
    induction n with
    | zero => intro f r w X Y hw hr hX hY hgo hm; exact absurd hm (Nat.not_lt_zero _)
    | succ n ih =>
      intro f r w X Y hw hr hX hY hgo hm H locs hP hD hS ls hl
      refine lv_iload_n hx hb dX0_find_14 rfl (lv_at hl 2 rfl) ?_
      refine lv_bipush (v := nI 16) hx hb dX0_find_15 (by decide) ?_
      refine nb_icmp_ge (tgt := 127) hx hb dX0_find_17 (by decide) (by omega) (by omega) (fun c1 => ?_) (fun c1 => ?_)
      · have e : f = 0 := by omega
        subst e
        have hgo : (X, Y) = (cu_fgo 4 n_ 1 0 0) := hgo
        exact kret 127 ls (C, F, L, MF, ML, mc, X, Y) H locs dX0_find_127 (by rw [← hgo]) hP hD hS
      · obtain ⟨f, rfl⟩ : ∃ k, f = k + 1 := ⟨f - 1, by omega⟩
        have g1 := cu_ga_le r
        have g2 := cu_gb_le r
        refine lv_iload_n hx hb dX0_find_20 rfl (lv_at hl 1 rfl) ?_
        refine lv_iconst (v := nI 1) hx hb dX0_find_21 (by decide) ?_
        refine nb_ishr hx hb dX0_find_22 (by omega) (by omega) ?_
        refine lv_iconst (v := nI 1) hx hb dX0_find_23 (by decide) ?_
        refine nb_iand hx hb dX0_find_24 ?_
        refine nb_top (y := nI (cu_ga r)) rfl ?_
        refine lv_istore (lv' := [(4, .int (nI (cu_ga r))), (0, .ref h0), (2, .int (nI r)), (3, .int (nI w))]) hx hb dX0_find_25 hl (by decide) rfl (fun ls hl => ?_)
        refine lv_iload_n hx hb dX0_find_27 rfl (lv_at hl 2 rfl) ?_
        refine lv_iload hx hb dX0_find_28 (lv_at hl 0 rfl) ?_
        refine nb_ixor hx hb dX0_find_30 ?_
        refine lv_iconst (v := nI 1) hx hb dX0_find_31 (by decide) ?_
        refine nb_iand hx hb dX0_find_32 ?_
        refine nb_top (y := nI (cu_gb r)) rfl ?_
        refine lv_istore (lv' := [(5, .int (nI (cu_gb r))), (4, .int (nI (cu_ga r))), (0, .ref h0), (2, .int (nI r)), (3, .int (nI w))]) hx hb dX0_find_33 hl (by decide) rfl (fun ls hl => ?_)
        refine lv_iload hx hb dX0_find_35 (lv_at hl 0 rfl) ?_
        refine nb_if_ne (tgt := 90) hx hb dX0_find_37 (by decide) (by omega) (fun c2 => ?_) (fun c2 => ?_)
        · have eb : cu_gb r = 1 := by omega
          refine lv_aload_n hx hb dX0_find_90 rfl (lv_at hl 2 rfl) ?_
          refine lv_dup hx hb dX0_find_91 rfl ?_
          refine gX_6 S hK hP dX0_find_92 ?_
          refine lv_iload_n hx hb dX0_find_95 rfl (lv_at hl 4 rfl) ?_
          refine lv_iload hx hb dX0_find_96 (lv_at hl 1 rfl) ?_
          refine nb_imul hx hb dX0_find_98 ?_
          refine nb_iadd hx hb dX0_find_99 ?_
          refine pX_6 S hK hP hD hS dX0_find_100 (fun H locs hP hD hS => ?_)
          refine lv_aload_n hx hb dX0_find_103 rfl (lv_at hl 2 rfl) ?_
          refine lv_dup hx hb dX0_find_104 rfl ?_
          refine gX_7 S hK hP dX0_find_105 ?_
          refine lv_iload_n hx hb dX0_find_108 rfl (lv_at hl 4 rfl) ?_
          refine lv_iload hx hb dX0_find_109 (lv_at hl 0 rfl) ?_
          refine nb_imul hx hb dX0_find_111 ?_
          refine nb_iadd hx hb dX0_find_112 ?_
          refine pX_7 S hK hP hD hS dX0_find_113 (fun H locs hP hD hS => ?_)
          refine lv_iload_n hx hb dX0_find_116 rfl (lv_at hl 3 rfl) ?_
          refine lv_iconst (v := nI 2) hx hb dX0_find_117 (by decide) ?_
          refine nb_ishr hx hb dX0_find_118 (by omega) (by omega) ?_
          refine lv_istore_n (lv' := [(2, .int (nI (r / 2 ^ 2))), (5, .int (nI (cu_gb r))), (4, .int (nI (cu_ga r))), (0, .ref h0), (3, .int (nI w))]) hx hb dX0_find_119 rfl hl (by decide) rfl (fun ls hl => ?_)
          refine lv_iload_n hx hb dX0_find_120 rfl (lv_at hl 4 rfl) ?_
          refine lv_iconst (v := nI 2) hx hb dX0_find_121 (by decide) ?_
          refine nb_imul hx hb dX0_find_122 ?_
          refine lv_istore_n (lv' := [(3, .int (nI (w * 2))), (2, .int (nI (r / 2 ^ 2))), (5, .int (nI (cu_gb r))), (4, .int (nI (cu_ga r))), (0, .ref h0)]) hx hb dX0_find_123 rfl hl (by decide) rfl (fun ls hl => ?_)
          refine lv_goto (tgt := 14) hx hb dX0_find_124 (by decide) ?_
          rcases (show cu_ga r = 0 ∨ cu_ga r = 1 by omega) with ea | ea
          · exact ih f (r / 2 ^ 2) (w * 2) (X + (w * (cu_ga r))) (Y + (w * (cu_gb r))) (by omega) (by omega) (by rw [ea]; omega) (by rw [eb]; omega) (by rw [← hgo]; simp [cu_fgo, cu_gx, cu_gy, eb]) (by omega) H locs hP hD hS ls (lv_sub hl [4, 1, 0] rfl)
          · exact ih f (r / 2 ^ 2) (w * 2) (X + (w * (cu_ga r))) (Y + (w * (cu_gb r))) (by omega) (by omega) (by rw [ea]; omega) (by rw [eb]; omega) (by rw [← hgo]; simp [cu_fgo, cu_gx, cu_gy, eb]) (by omega) H locs hP hD hS ls (lv_sub hl [4, 1, 0] rfl)
        · have eb := c2
          refine lv_aload_n hx hb dX0_find_40 rfl (lv_at hl 2 rfl) ?_
          refine gX_6 S hK hP dX0_find_41 ?_
          refine lv_istore (lv' := [(6, .int (nI X)), (5, .int (nI (cu_gb r))), (4, .int (nI (cu_ga r))), (0, .ref h0), (2, .int (nI r)), (3, .int (nI w))]) hx hb dX0_find_44 hl (by decide) rfl (fun ls hl => ?_)
          refine lv_aload_n hx hb dX0_find_46 rfl (lv_at hl 3 rfl) ?_
          refine lv_iload hx hb dX0_find_47 (lv_at hl 2 rfl) ?_
          refine nb_if_ne (tgt := 59) hx hb dX0_find_49 (by decide) (by omega) (fun c3 => ?_) (fun c3 => ?_)
          · have ea : cu_ga r = 1 := by omega
            refine lv_iload_n hx hb dX0_find_59 rfl (lv_at hl 5 rfl) ?_
            refine lv_iconst (v := nI 1) hx hb dX0_find_60 (by decide) ?_
            refine nb_isub hx hb dX0_find_61 (by omega) ?_
            refine lv_aload_n hx hb dX0_find_62 rfl (lv_at hl 3 rfl) ?_
            refine gX_7 S hK hP dX0_find_63 ?_
            refine nb_isub hx hb dX0_find_66 (by omega) ?_
            refine pX_6 S hK hP hD hS dX0_find_67 (fun H locs hP hD hS => ?_)
            refine lv_aload_n hx hb dX0_find_70 rfl (lv_at hl 3 rfl) ?_
            refine lv_iload hx hb dX0_find_71 (lv_at hl 2 rfl) ?_
            refine nb_if_ne (tgt := 81) hx hb dX0_find_73 (by decide) (by omega) (fun c4 => ?_) (fun c4 => ?_)
            · refine lv_iload_n hx hb dX0_find_81 rfl (lv_at hl 5 rfl) ?_
              refine lv_iconst (v := nI 1) hx hb dX0_find_82 (by decide) ?_
              refine nb_isub hx hb dX0_find_83 (by omega) ?_
              refine lv_iload hx hb dX0_find_84 (lv_at hl 0 rfl) ?_
              refine nb_isub hx hb dX0_find_86 (by omega) ?_
              refine pX_7 S hK hP hD hS dX0_find_87 (fun H locs hP hD hS => ?_)
              refine lv_aload_n hx hb dX0_find_90 rfl (lv_at hl 3 rfl) ?_
              refine lv_dup hx hb dX0_find_91 rfl ?_
              refine gX_6 S hK hP dX0_find_92 ?_
              refine lv_iload_n hx hb dX0_find_95 rfl (lv_at hl 5 rfl) ?_
              refine lv_iload hx hb dX0_find_96 (lv_at hl 2 rfl) ?_
              refine nb_imul hx hb dX0_find_98 ?_
              refine nb_iadd hx hb dX0_find_99 ?_
              refine pX_6 S hK hP hD hS dX0_find_100 (fun H locs hP hD hS => ?_)
              refine lv_aload_n hx hb dX0_find_103 rfl (lv_at hl 3 rfl) ?_
              refine lv_dup hx hb dX0_find_104 rfl ?_
              refine gX_7 S hK hP dX0_find_105 ?_
              refine lv_iload_n hx hb dX0_find_108 rfl (lv_at hl 5 rfl) ?_
              refine lv_iload hx hb dX0_find_109 (lv_at hl 1 rfl) ?_
              refine nb_imul hx hb dX0_find_111 ?_
              refine nb_iadd hx hb dX0_find_112 ?_
              refine pX_7 S hK hP hD hS dX0_find_113 (fun H locs hP hD hS => ?_)
              refine lv_iload_n hx hb dX0_find_116 rfl (lv_at hl 4 rfl) ?_
              refine lv_iconst (v := nI 2) hx hb dX0_find_117 (by decide) ?_
              refine nb_ishr hx hb dX0_find_118 (by omega) (by omega) ?_
              refine lv_istore_n (lv' := [(2, .int (nI (r / 2 ^ 2))), (6, .int (nI X)), (5, .int (nI (cu_gb r))), (4, .int (nI (cu_ga r))), (0, .ref h0), (3, .int (nI w))]) hx hb dX0_find_119 rfl hl (by decide) rfl (fun ls hl => ?_)
              refine lv_iload_n hx hb dX0_find_120 rfl (lv_at hl 5 rfl) ?_
              refine lv_iconst (v := nI 2) hx hb dX0_find_121 (by decide) ?_
              refine nb_imul hx hb dX0_find_122 ?_
              refine lv_istore_n (lv' := [(3, .int (nI (w * 2))), (2, .int (nI (r / 2 ^ 2))), (6, .int (nI X)), (5, .int (nI (cu_gb r))), (4, .int (nI (cu_ga r))), (0, .ref h0)]) hx hb dX0_find_123 rfl hl (by decide) rfl (fun ls hl => ?_)
              refine lv_goto (tgt := 14) hx hb dX0_find_124 (by decide) ?_
              exact ih f (r / 2 ^ 2) (w * 2) (((w - 1) - Y) + (w * (cu_ga r))) (((w - 1) - X) + (w * (cu_gb r))) (by omega) (by omega) (by rw [ea]; omega) (by rw [eb]; omega) (by rw [← hgo]; simp [cu_fgo, cu_gx, cu_gy, ea, eb]) (by omega) H locs hP hD hS ls (lv_sub hl [5, 1, 0] rfl)
            · exfalso; omega
          · have ea := c3
            refine lv_aload_n hx hb dX0_find_52 rfl (lv_at hl 3 rfl) ?_
            refine gX_7 S hK hP dX0_find_53 ?_
            refine lv_goto (tgt := 67) hx hb dX0_find_56 (by decide) ?_
            refine pX_6 S hK hP hD hS dX0_find_67 (fun H locs hP hD hS => ?_)
            refine lv_aload_n hx hb dX0_find_70 rfl (lv_at hl 3 rfl) ?_
            refine lv_iload hx hb dX0_find_71 (lv_at hl 2 rfl) ?_
            refine nb_if_ne (tgt := 81) hx hb dX0_find_73 (by decide) (by omega) (fun c4 => ?_) (fun c4 => ?_)
            · exfalso; omega
            · refine lv_iload hx hb dX0_find_76 (lv_at hl 0 rfl) ?_
              refine lv_goto (tgt := 87) hx hb dX0_find_78 (by decide) ?_
              refine pX_7 S hK hP hD hS dX0_find_87 (fun H locs hP hD hS => ?_)
              refine lv_aload_n hx hb dX0_find_90 rfl (lv_at hl 3 rfl) ?_
              refine lv_dup hx hb dX0_find_91 rfl ?_
              refine gX_6 S hK hP dX0_find_92 ?_
              refine lv_iload_n hx hb dX0_find_95 rfl (lv_at hl 5 rfl) ?_
              refine lv_iload hx hb dX0_find_96 (lv_at hl 2 rfl) ?_
              refine nb_imul hx hb dX0_find_98 ?_
              refine nb_iadd hx hb dX0_find_99 ?_
              refine pX_6 S hK hP hD hS dX0_find_100 (fun H locs hP hD hS => ?_)
              refine lv_aload_n hx hb dX0_find_103 rfl (lv_at hl 3 rfl) ?_
              refine lv_dup hx hb dX0_find_104 rfl ?_
              refine gX_7 S hK hP dX0_find_105 ?_
              refine lv_iload_n hx hb dX0_find_108 rfl (lv_at hl 5 rfl) ?_
              refine lv_iload hx hb dX0_find_109 (lv_at hl 1 rfl) ?_
              refine nb_imul hx hb dX0_find_111 ?_
              refine nb_iadd hx hb dX0_find_112 ?_
              refine pX_7 S hK hP hD hS dX0_find_113 (fun H locs hP hD hS => ?_)
              refine lv_iload_n hx hb dX0_find_116 rfl (lv_at hl 4 rfl) ?_
              refine lv_iconst (v := nI 2) hx hb dX0_find_117 (by decide) ?_
              refine nb_ishr hx hb dX0_find_118 (by omega) (by omega) ?_
              refine lv_istore_n (lv' := [(2, .int (nI (r / 2 ^ 2))), (6, .int (nI X)), (5, .int (nI (cu_gb r))), (4, .int (nI (cu_ga r))), (0, .ref h0), (3, .int (nI w))]) hx hb dX0_find_119 rfl hl (by decide) rfl (fun ls hl => ?_)
              refine lv_iload_n hx hb dX0_find_120 rfl (lv_at hl 5 rfl) ?_
              refine lv_iconst (v := nI 2) hx hb dX0_find_121 (by decide) ?_
              refine nb_imul hx hb dX0_find_122 ?_
              refine lv_istore_n (lv' := [(3, .int (nI (w * 2))), (2, .int (nI (r / 2 ^ 2))), (6, .int (nI X)), (5, .int (nI (cu_gb r))), (4, .int (nI (cu_ga r))), (0, .ref h0)]) hx hb dX0_find_123 rfl hl (by decide) rfl (fun ls hl => ?_)
              refine lv_goto (tgt := 14) hx hb dX0_find_124 (by decide) ?_
              exact ih f (r / 2 ^ 2) (w * 2) (Y + (w * (cu_ga r))) (X + (w * (cu_gb r))) (by omega) (by omega) (by rw [ea]; omega) (by rw [eb]; omega) (by rw [← hgo]; simp [cu_fgo, cu_gx, cu_gy, ea, eb]) (by omega) H locs hP hD hS ls (lv_sub hl [5, 1, 0] rfl)
  refine lv_iload_n hx hb dX0_find_0 rfl (lv_at hl 1 rfl) ?_
  refine lv_istore_n (lv' := [(2, .int (nI n_)), (0, .ref h0), (1, .int (nI n_))]) hx hb dX0_find_1 rfl hl (by decide) rfl (fun ls hl => ?_)
  refine lv_aload_n hx hb dX0_find_2 rfl (lv_at hl 1 rfl) ?_
  refine lv_iconst (v := nI 0) hx hb dX0_find_3 (by decide) ?_
  refine pX_6 S hK hP hD hS dX0_find_4 (fun H locs hP hD hS => ?_)
  refine lv_aload_n hx hb dX0_find_7 rfl (lv_at hl 1 rfl) ?_
  refine lv_iconst (v := nI 0) hx hb dX0_find_8 (by decide) ?_
  refine pX_7 S hK hP hD hS dX0_find_9 (fun H locs hP hD hS => ?_)
  refine lv_iconst (v := nI 1) hx hb dX0_find_12 (by decide) ?_
  refine lv_istore_n (lv' := [(3, .int (nI 1)), (2, .int (nI n_)), (0, .ref h0), (1, .int (nI n_))]) hx hb dX0_find_13 rfl hl (by decide) rfl (fun ls hl => ?_)
  exact loop 5 4 n_ 1 0 0 (by omega) hn (by omega) (by omega) rfl (by omega) H locs hP hD hS ls (lv_sub hl [2, 1, 0] rfl)
set_option maxHeartbeats 4000000 in
set_option maxRecDepth 100000 in
/-- place -/
theorem mX0_place (l : Launch) (D : va_G) (h0 a1 a2 a3 a4 a5 : Nat) (dB dS : ClassId) (C F L MF ML : Nat → Nat) (mc cx cy : Nat) (sz : Nat) (nv : Int32) : MetI l yX0_place cX0_place 2 rX0_place [.ref h0, .int nv] D (tX dB dS) (wX h0 a1 a2 a3 a4 a5 dB dS C F L MF ML mc cx cy) (uX h0 a1 a2 a3 a4 a5 dB dS) sz (fun r u => r = cu_plc nv ∧ ∃ cx2 cy2, u = (C, F, L, MF, ML, mc, cx2, cy2)) := by
  refine metI_of (by decide) (Nat.le_of_ble_eq_true rfl) ?_
  intro p e s m args below meth c A H0 Q S hK hA hP hD hS kret ls hl
  have S : CallFix p m c cX0_place 2 s args lw_all RX0 := S
  have hx := S.1
  have hb := S.2.1
  have hts := S.2.2.2.2
  have hl : lv_has ls 2 [(0, .ref h0), (1, .int nv)] := hl
  refine lv_iload_n hx hb dX0_place_0 rfl (lv_at hl 1 rfl) ?_
  refine lv_if_lt (tgt := 11) hx hb dX0_place_1 (by decide) (fun c1 => ?_) (fun c1 => ?_)
  · refine lv_iconst (v := (-1)) hx hb dX0_place_11 (by decide) ?_
    exact kret 12 ls (-1) (C, F, L, MF, ML, mc, cx, cy) H0 [] dX0_place_12 ⟨by rw [cu_plc, if_neg (fun q => q.1 c1)], cx, cy, rfl⟩ hP hD hS
  · refine lv_iload_n hx hb dX0_place_4 rfl (lv_at hl 1 rfl) ?_
    refine lv_sipush (v := nI 255) hx hb dX0_place_5 (by decide) ?_
    refine lv_icmp_le (tgt := 13) hx hb dX0_place_8 (by decide) (fun c2 => ?_) (fun c2 => ?_)
    · obtain ⟨n, hn, rfl⟩ := cu_of_to (n := 255) (by omega) c1 (cu_le_nlt c2)
      refine lv_aload_n hx hb dX0_place_13 rfl (lv_at hl 0 rfl) ?_
      refine lv_iload_n hx hb dX0_place_14 rfl (lv_at hl 1 rfl) ?_
      refine cu_vcall (wr := []) (As := [.int (nI n)]) (rest := []) S (mX0_find l D h0 a1 a2 a3 a4 a5 dB dS C F L MF ML mc cx cy H0.size (n) (by omega)) (cwX0_find hts ⟨Nat.le_of_ble_eq_true rfl, Nat.le_of_ble_eq_true rfl⟩) (va_recv hK hP (ci := 0) (q0 := 0) rfl rfl) hA hK hP (fun k q h => by cases h) (by rw [List.append_nil]; exact hD) hS rfl hl.1 rfl (Nat.le_of_ble_eq_true rfl) dX0_place_15 (Nat.zero_le _) (Nat.zero_le _) (fun u_ H locs hq hP _ hD hS => ?_)
      subst hq
      rw [List.append_nil] at hD
      have hP : va_P D vwCl (wX h0 a1 a2 a3 a4 a5 dB dS C F L MF ML mc ((cu_fgo 4 (n) 1 0 0).1) ((cu_fgo 4 (n) 1 0 0).2)) H := hP
      have hD : va_D A (wX h0 a1 a2 a3 a4 a5 dB dS C F L MF ML mc ((cu_fgo 4 (n) 1 0 0).1) ((cu_fgo 4 (n) 1 0 0).2)) := hD
      refine lv_bipush (v := nI 16) hx hb dX0_place_18 (by decide) ?_
      refine lv_aload_n hx hb dX0_place_20 rfl (lv_at hl 0 rfl) ?_
      refine gX_6 S hK hP dX0_place_21 ?_
      refine nb_imul hx hb dX0_place_24 ?_
      refine lv_aload_n hx hb dX0_place_25 rfl (lv_at hl 0 rfl) ?_
      refine gX_7 S hK hP dX0_place_26 ?_
      refine nb_iadd hx hb dX0_place_29 ?_
      exact kret 30 ls (nI ((16 * ((cu_fgo 4 (n) 1 0 0).1)) + ((cu_fgo 4 (n) 1 0 0).2))) (C, F, L, MF, ML, mc, (cu_fgo 4 n 1 0 0).1, (cu_fgo 4 n 1 0 0).2) H locs dX0_place_30 ⟨by rw [cu_plc_ok (show n < 256 by omega)]; rfl, _, _, rfl⟩ hP hD hS
    · refine lv_iconst (v := (-1)) hx hb dX0_place_11 (by decide) ?_
      exact kret 12 ls (-1) (C, F, L, MF, ML, mc, cx, cy) H0 [] dX0_place_12 ⟨by rw [cu_plc, if_neg (fun q => q.2 (fa_of_nle c2))], cx, cy, rfl⟩ hP hD hS
set_option maxHeartbeats 4000000 in
set_option maxRecDepth 100000 in
/-- nth -/
theorem mX0_nth (l : Launch) (D : va_G) (h0 a1 a2 a3 a4 a5 : Nat) (dB dS : ClassId) (C F L MF ML : Nat → Nat) (mc cx cy : Nat) (sz : Nat) (S0 : Nat → Nat → Bool) (hC : ∀ q, C q < 128) (hF : ∀ q, F q < 256) (hL : ∀ q, L q < 256) (hR : cu_RX C F L S0) (sv kv : Int32) : MetI l yX0_nth cX0_nth 6 rX0_nth [.ref h0, .int sv, .int kv] D (tX dB dS) (wX h0 a1 a2 a3 a4 a5 dB dS C F L MF ML mc cx cy) (uX h0 a1 a2 a3 a4 a5 dB dS) sz (fun r u => r = cu_on (fun a => cu_sel (S0 a) (fun n => nI (cu_hp n)) kv) sv ∧ ∃ cx2 cy2, u = (C, F, L, MF, ML, mc, cx2, cy2)) := by
  refine metI_of (by decide) (Nat.le_of_ble_eq_true rfl) ?_
  intro p e s m args below meth c A H0 Q S hK hA hP hD hS kret ls hl
  have S : CallFix p m c cX0_nth 6 s args lw_all RX0 := S
  have hx := S.1
  have hb := S.2.1
  have hts := S.2.2.2.2
  have hl : lv_has ls 6 [(0, .ref h0), (1, .int sv), (2, .int kv)] := hl
  refine lv_aload_n hx hb dX0_nth_0 rfl (lv_at hl 0 rfl) ?_
  refine lv_iload_n hx hb dX0_nth_1 rfl (lv_at hl 1 rfl) ?_
  refine cu_rcall (As := [.int sv]) (rest := []) S (mX0_isSet l h0 sv) (cwX0_isSet hts ⟨Nat.le_of_ble_eq_true rfl, Nat.le_of_ble_eq_true rfl⟩) (cu_preP (va_recv hK hP (ci := 0) (q0 := 0) rfl rfl)) rfl hl.1 rfl (Nat.le_of_ble_eq_true rfl) dX0_nth_2 (Nat.zero_le _) (Nat.zero_le _) ?_
  refine nb_if_neB (tgt := 10) hx hb dX0_nth_5 (by decide) (fun c1 => ?_) (fun c1 => ?_)
  · obtain ⟨a, ha, rfl⟩ := cu_ok_of c1
    obtain ⟨hk, hI⟩ := hR a ha
    refine lv_iload_n hx hb dX0_nth_10 rfl (lv_at hl 2 rfl) ?_
    refine lv_if_ge (tgt := 17) hx hb dX0_nth_11 (by decide) (fun c2 => ?_) (fun c2 => ?_)
    · obtain ⟨K, hKK, rfl⟩ := nI_of (cu_le_nlt c2)
      have loop : ∀ (n : Nat) (j : Nat), j ≤ C a → fb_ct (S0 a) (cu_lo (fun j => L (40 * a + j)) j) ≤ K → C a - j < n → ∀ ls : Array Slot, lv_has ls 6 [(0, .ref h0), (1, .int (nI a)), (3, .int (nI (K - fb_ct (S0 a) (cu_lo (fun j => L (40 * a + j)) j)))), (4, .int (nI (40 * a + j)))] → W p l e rX0_nth s m args below meth c H0 [] 0 0 Q (F0 m 25 ls []) := by
        intro n
        induction n with
        | zero => intro j hj hct hm; exact absurd hm (Nat.not_lt_zero _)
        | succ n ih =>
          intro j hj hct hm ls hl
          refine lv_iload hx hb dX0_nth_25 (lv_at hl 3 rfl) ?_
          refine lv_bipush (v := nI 40) hx hb dX0_nth_27 (by decide) ?_
          refine lv_iload_n hx hb dX0_nth_29 rfl (lv_at hl 1 rfl) ?_
          refine nb_imul hx hb dX0_nth_30 ?_
          refine lv_aload_n hx hb dX0_nth_31 rfl (lv_at hl 0 rfl) ?_
          refine gX_0 S hK hP dX0_nth_32 ?_
          refine lv_iload_n hx hb dX0_nth_35 rfl (lv_at hl 1 rfl) ?_
          refine nb_bald hx hb hK hP 1 0 rfl rfl (by omega) (by decide) dX0_nth_36 ?_
          have b_1 := hC a
          refine nb_iadd hx hb dX0_nth_37 ?_
          refine nb_icmp_ge (tgt := 103) hx hb dX0_nth_38 (by decide) (by omega) (by omega) (fun c3 => ?_) (fun c3 => ?_)
          · refine lv_bipush (v := (-3)) hx hb dX0_nth_103 (by decide) ?_
            exact kret 105 ls (-3) (C, F, L, MF, ML, mc, cx, cy) H0 [] dX0_nth_105 ⟨by rw [cu_on_ok ha, cu_sel_big hKK (by rw [← hI.cells_end, ← show j = C a by omega]; exact hct)], cx, cy, rfl⟩ hP hD hS
          · have hIj : F (40 * a + j) ≤ L (40 * a + j) ∧ L (40 * a + j) < 256 := hI.1 j (by omega)
            have hcs : fb_ct (S0 a) (cu_lo (fun j => L (40 * a + j)) (j + 1)) = fb_ct (S0 a) (cu_lo (fun j => L (40 * a + j)) j) + (L (40 * a + j) - F (40 * a + j) + 1) := hI.cells_step (show j < C a by omega)
            refine lv_aload_n hx hb dX0_nth_41 rfl (lv_at hl 0 rfl) ?_
            refine gX_2 S hK hP dX0_nth_42 ?_
            refine lv_iload hx hb dX0_nth_45 (lv_at hl 3 rfl) ?_
            refine nb_sald hx hb hK hP 3 1 rfl rfl (by omega) (by decide) dX0_nth_47 ?_
            have b_2 := hL (40 * a + j)
            refine lv_aload_n hx hb dX0_nth_48 rfl (lv_at hl 0 rfl) ?_
            refine gX_1 S hK hP dX0_nth_49 ?_
            refine lv_iload hx hb dX0_nth_52 (lv_at hl 3 rfl) ?_
            refine nb_sald hx hb hK hP 2 1 rfl rfl (by omega) (by decide) dX0_nth_54 ?_
            have b_3 := hF (40 * a + j)
            refine nb_isub hx hb dX0_nth_55 (by omega) ?_
            refine lv_iconst (v := nI 1) hx hb dX0_nth_56 (by decide) ?_
            refine nb_iadd hx hb dX0_nth_57 ?_
            refine lv_istore (lv' := [(5, .int (nI (((L (40 * a + j)) - (F (40 * a + j))) + 1))), (0, .ref h0), (1, .int (nI a)), (3, .int (nI (K - fb_ct (S0 a) (cu_lo (fun j => L (40 * a + j)) j)))), (4, .int (nI (40 * a + j)))]) hx hb dX0_nth_58 hl (by decide) rfl (fun ls hl => ?_)
            refine lv_iload_n hx hb dX0_nth_60 rfl (lv_at hl 3 rfl) ?_
            refine lv_iload hx hb dX0_nth_61 (lv_at hl 0 rfl) ?_
            refine nb_icmp_ge (tgt := 92) hx hb dX0_nth_63 (by decide) (by omega) (by omega) (fun c4 => ?_) (fun c4 => ?_)
            · refine lv_iload_n hx hb dX0_nth_92 rfl (lv_at hl 3 rfl) ?_
              refine lv_iload hx hb dX0_nth_93 (lv_at hl 0 rfl) ?_
              refine nb_isub hx hb dX0_nth_95 (by omega) ?_
              refine nb_top (y := nI (K - fb_ct (S0 a) (cu_lo (fun j => L (40 * a + j)) (j + 1)))) (congrArg nI (by omega)) ?_
              refine lv_istore_n (lv' := [(3, .int (nI (K - fb_ct (S0 a) (cu_lo (fun j => L (40 * a + j)) (j + 1))))), (5, .int (nI (((L (40 * a + j)) - (F (40 * a + j))) + 1))), (0, .ref h0), (1, .int (nI a)), (4, .int (nI (40 * a + j)))]) hx hb dX0_nth_96 rfl hl (by decide) rfl (fun ls hl => ?_)
              refine lv_iinc (v := nI ((40 * a + j) + 1)) (lv' := [(4, .int (nI ((40 * a + j) + 1))), (3, .int (nI (K - fb_ct (S0 a) (cu_lo (fun j => L (40 * a + j)) (j + 1))))), (5, .int (nI (((L (40 * a + j)) - (F (40 * a + j))) + 1))), (0, .ref h0), (1, .int (nI a))]) hx hb dX0_nth_97 hl (k := 4) rfl (nI_1 _) (by decide) rfl (fun ls hl => ?_)
              refine lv_goto (tgt := 25) hx hb dX0_nth_100 (by decide) ?_
              exact ih (j + 1) (by omega) (by omega) (by omega) ls (lv_sub hl [3, 4, 1, 0] rfl)
            · have hna : S0 a (F (40 * a + j) + (K - fb_ct (S0 a) (cu_lo (fun j => L (40 * a + j)) j))) = true ∧ fb_ct (S0 a) (F (40 * a + j) + (K - fb_ct (S0 a) (cu_lo (fun j => L (40 * a + j)) j))) = fb_ct (S0 a) (cu_lo (fun j => L (40 * a + j)) j) + (K - fb_ct (S0 a) (cu_lo (fun j => L (40 * a + j)) j)) ∧ F (40 * a + j) + (K - fb_ct (S0 a) (cu_lo (fun j => L (40 * a + j)) j)) < 256 := hI.nth_at (j := j) (by omega) c4
              refine lv_aload_n hx hb dX0_nth_66 rfl (lv_at hl 1 rfl) ?_
              refine lv_aload_n hx hb dX0_nth_67 rfl (lv_at hl 1 rfl) ?_
              refine gX_1 S hK hP dX0_nth_68 ?_
              refine lv_iload hx hb dX0_nth_71 (lv_at hl 4 rfl) ?_
              refine nb_sald hx hb hK hP 2 1 rfl rfl (by omega) (by decide) dX0_nth_73 ?_
              have b_4 := hF (40 * a + j)
              refine lv_iload_n hx hb dX0_nth_74 rfl (lv_at hl 3 rfl) ?_
              refine nb_iadd hx hb dX0_nth_75 ?_
              refine cu_vcall (wr := []) (As := [.int (nI ((F (40 * a + j)) + (K - fb_ct (S0 a) (cu_lo (fun j => L (40 * a + j)) j))))]) (rest := []) S (mX0_find l D h0 a1 a2 a3 a4 a5 dB dS C F L MF ML mc cx cy H0.size (F (40 * a + j) + (K - fb_ct (S0 a) (cu_lo (fun j => L (40 * a + j)) j))) (by omega)) (cwX0_find hts ⟨Nat.le_of_ble_eq_true rfl, Nat.le_of_ble_eq_true rfl⟩) (va_recv hK hP (ci := 0) (q0 := 0) rfl rfl) hA hK hP (fun k q h => by cases h) (by rw [List.append_nil]; exact hD) hS rfl hl.1 rfl (Nat.le_of_ble_eq_true rfl) dX0_nth_76 (Nat.zero_le _) (Nat.zero_le _) (fun u_ H locs hq hP _ hD hS => ?_)
              subst hq
              rw [List.append_nil] at hD
              have hP : va_P D vwCl (wX h0 a1 a2 a3 a4 a5 dB dS C F L MF ML mc ((cu_fgo 4 (F (40 * a + j) + (K - fb_ct (S0 a) (cu_lo (fun j => L (40 * a + j)) j))) 1 0 0).1) ((cu_fgo 4 (F (40 * a + j) + (K - fb_ct (S0 a) (cu_lo (fun j => L (40 * a + j)) j))) 1 0 0).2)) H := hP
              have hD : va_D A (wX h0 a1 a2 a3 a4 a5 dB dS C F L MF ML mc ((cu_fgo 4 (F (40 * a + j) + (K - fb_ct (S0 a) (cu_lo (fun j => L (40 * a + j)) j))) 1 0 0).1) ((cu_fgo 4 (F (40 * a + j) + (K - fb_ct (S0 a) (cu_lo (fun j => L (40 * a + j)) j))) 1 0 0).2)) := hD
              refine lv_bipush (v := nI 16) hx hb dX0_nth_79 (by decide) ?_
              refine lv_aload_n hx hb dX0_nth_81 rfl (lv_at hl 1 rfl) ?_
              refine gX_6 S hK hP dX0_nth_82 ?_
              refine nb_imul hx hb dX0_nth_85 ?_
              refine lv_aload_n hx hb dX0_nth_86 rfl (lv_at hl 1 rfl) ?_
              refine gX_7 S hK hP dX0_nth_87 ?_
              refine nb_iadd hx hb dX0_nth_90 ?_
              exact kret 91 ls (nI ((16 * ((cu_fgo 4 (F (40 * a + j) + (K - fb_ct (S0 a) (cu_lo (fun j => L (40 * a + j)) j))) 1 0 0).1)) + ((cu_fgo 4 (F (40 * a + j) + (K - fb_ct (S0 a) (cu_lo (fun j => L (40 * a + j)) j))) 1 0 0).2))) (C, F, L, MF, ML, mc, (cu_fgo 4 (F (40 * a + j) + (K - fb_ct (S0 a) (cu_lo (fun j => L (40 * a + j)) j))) 1 0 0).1, (cu_fgo 4 (F (40 * a + j) + (K - fb_ct (S0 a) (cu_lo (fun j => L (40 * a + j)) j))) 1 0 0).2) H locs dX0_nth_91 ⟨by rw [cu_on_ok ha, cu_sel_at (n := F (40 * a + j) + (K - fb_ct (S0 a) (cu_lo (fun j => L (40 * a + j)) j))) hna.2.2 hna.1 (by rw [hna.2.1]; congr 1; omega)]; rfl, _, _, rfl⟩ hP hD hS
      refine lv_iload_n hx hb dX0_nth_17 rfl (lv_at hl 2 rfl) ?_
      refine lv_istore_n (lv' := [(3, .int (nI K)), (0, .ref h0), (1, .int (nI a)), (2, .int (nI K))]) hx hb dX0_nth_18 rfl hl (by decide) rfl (fun ls hl => ?_)
      refine lv_bipush (v := nI 40) hx hb dX0_nth_19 (by decide) ?_
      refine lv_iload_n hx hb dX0_nth_21 rfl (lv_at hl 2 rfl) ?_
      refine nb_imul hx hb dX0_nth_22 ?_
      refine lv_istore (lv' := [(4, .int (nI (40 * a))), (3, .int (nI K)), (0, .ref h0), (1, .int (nI a)), (2, .int (nI K))]) hx hb dX0_nth_23 hl (by decide) rfl (fun ls hl => ?_)
      exact loop (C a + 1) 0 (Nat.zero_le _) (Nat.zero_le _) (by omega) ls (lv_sub hl [2, 3, 1, 0] rfl)
    · refine lv_bipush (v := (-3)) hx hb dX0_nth_14 (by decide) ?_
      exact kret 16 ls (-3) (C, F, L, MF, ML, mc, cx, cy) H0 [] dX0_nth_16 ⟨by rw [cu_on_ok ha, cu_sel_neg (fa_of_nle c2)], cx, cy, rfl⟩ hP hD hS
  · refine lv_iconst (v := (-1)) hx hb dX0_nth_8 (by decide) ?_
    exact kret 9 ls (-1) (C, F, L, MF, ML, mc, cx, cy) H0 [] dX0_nth_9 ⟨by rw [cu_on_no c1], cx, cy, rfl⟩ hP hD hS
set_option maxHeartbeats 4000000 in
set_option maxRecDepth 100000 in
/-- append -/
theorem mX0_append (l : Launch) (D : va_G) (h0 a1 a2 a3 a4 a5 : Nat) (dB dS : ClassId) (C F L MF ML : Nat → Nat) (mc cx cy : Nat) (sz fr to_ : Nat) (T : Nat → Bool) (hMF : ∀ q, MF q < 256) (hML : ∀ q, ML q < 256) (hIv : cu_Iv mc MF ML T) (hmc : mc ≤ 83) (hlt : ∀ n, T n = true → n < fr) (hft : fr ≤ to_) (hto : to_ < 256) : MetV l yX0_append cX0_append 3 rX0_append [.ref h0, .int (nI fr), .int (nI to_)] D (tX dB dS) (wX h0 a1 a2 a3 a4 a5 dB dS C F L MF ML mc cx cy) (uX h0 a1 a2 a3 a4 a5 dB dS) sz (fun u => ∃ mc2 MF2 ML2, u = (C, F, L, MF2, ML2, mc2, cx, cy) ∧ cu_Iv mc2 MF2 ML2 (fun n => T n || (decide (fr ≤ n) && decide (n ≤ to_))) ∧ (∀ q, MF2 q < 256) ∧ ∀ q, ML2 q < 256) := by
  refine metV_of (by decide) (Nat.le_of_ble_eq_true rfl) ?_
  intro p e s m args below meth c A H0 Q S hK hA hP hD hS kret ls hl
  have S : CallFix p m c cX0_append 3 s args lw_all RX0 := S
  have hx := S.1
  have hb := S.2.1
  have hts := S.2.2.2.2
  have hl : lv_has ls 3 [(0, .ref h0), (1, .int (nI fr)), (2, .int (nI to_))] := hl
  have k38 : (mc = 0 ∨ ML (mc - 1) + 1 ≠ fr) → W p l e rX0_append s m args below meth c H0 [] 0 0 Q (F0 m 38 ls []) := by
    intro hno
    refine lv_aload_n hx hb dX0_append_38 rfl (lv_at hl 0 rfl) ?_
    refine gX_4 S hK hP dX0_append_39 ?_
    refine lv_aload_n hx hb dX0_append_42 rfl (lv_at hl 0 rfl) ?_
    refine gX_3 S hK hP dX0_append_43 ?_
    refine lv_iload_n hx hb dX0_append_46 rfl (lv_at hl 1 rfl) ?_
    refine nb_i2s hx hb dX0_append_47 (by omega) ?_
    refine nb_sast hx hb hK hP hD hS 4 1 rfl rfl (by omega) (by decide) (by omega) dX0_append_48 (fun H locs hP hD hS => ?_)
    have hP : va_P D vwCl (wX h0 a1 a2 a3 a4 a5 dB dS C F L (va_up MF mc fr) ML mc cx cy) H := hP
    have hD : va_D A (wX h0 a1 a2 a3 a4 a5 dB dS C F L (va_up MF mc fr) ML mc cx cy) := hD
    have hMF : ∀ q, (va_up MF mc fr) q < 256 := cu_upl hMF (by omega)
    refine lv_aload_n hx hb dX0_append_49 rfl (lv_at hl 0 rfl) ?_
    refine gX_5 S hK hP dX0_append_50 ?_
    refine lv_aload_n hx hb dX0_append_53 rfl (lv_at hl 0 rfl) ?_
    refine gX_3 S hK hP dX0_append_54 ?_
    refine lv_iload_n hx hb dX0_append_57 rfl (lv_at hl 2 rfl) ?_
    refine nb_i2s hx hb dX0_append_58 (by omega) ?_
    refine nb_sast hx hb hK hP hD hS 5 1 rfl rfl (by omega) (by decide) (by omega) dX0_append_59 (fun H locs hP hD hS => ?_)
    have hP : va_P D vwCl (wX h0 a1 a2 a3 a4 a5 dB dS C F L (va_up MF mc fr) (va_up ML mc to_) mc cx cy) H := hP
    have hD : va_D A (wX h0 a1 a2 a3 a4 a5 dB dS C F L (va_up MF mc fr) (va_up ML mc to_) mc cx cy) := hD
    have hML : ∀ q, (va_up ML mc to_) q < 256 := cu_upl hML (by omega)
    refine lv_aload_n hx hb dX0_append_60 rfl (lv_at hl 0 rfl) ?_
    refine lv_dup hx hb dX0_append_61 rfl ?_
    refine gX_3 S hK hP dX0_append_62 ?_
    refine lv_iconst (v := nI 1) hx hb dX0_append_65 (by decide) ?_
    refine nb_iadd hx hb dX0_append_66 ?_
    refine pX_3 S hK hP hD hS dX0_append_67 (fun H locs hP hD hS => ?_)
    exact kret 70 ls (C, F, L, va_up MF mc fr, va_up ML mc to_, mc + 1, cx, cy) H locs dX0_append_70 ⟨_, _, _, rfl, cu_app_new hIv hlt hft hto hno, hMF, hML⟩ hP hD hS
  refine lv_aload_n hx hb dX0_append_0 rfl (lv_at hl 0 rfl) ?_
  refine gX_3 S hK hP dX0_append_1 ?_
  refine nb_if_le (tgt := 38) hx hb dX0_append_4 (by decide) (by omega) (fun c1 => ?_) (fun c1 => ?_)
  · exact k38 (Or.inl c1)
  · have hl1 := hlt (ML (mc - 1)) (hIv.inn (j := mc - 1) (by omega) (hIv.1 (mc - 1) (by omega)).1 (Nat.le_refl _))
    refine lv_aload_n hx hb dX0_append_7 rfl (lv_at hl 0 rfl) ?_
    refine gX_5 S hK hP dX0_append_8 ?_
    refine lv_aload_n hx hb dX0_append_11 rfl (lv_at hl 0 rfl) ?_
    refine gX_3 S hK hP dX0_append_12 ?_
    refine lv_iconst (v := nI 1) hx hb dX0_append_15 (by decide) ?_
    refine nb_isub hx hb dX0_append_16 (by omega) ?_
    refine nb_sald hx hb hK hP 5 1 rfl rfl (by omega) (by decide) dX0_append_17 ?_
    have b_1 := hML (mc - 1)
    refine lv_iload_n hx hb dX0_append_18 rfl (lv_at hl 1 rfl) ?_
    refine lv_iconst (v := nI 1) hx hb dX0_append_19 (by decide) ?_
    refine nb_isub hx hb dX0_append_20 (by omega) ?_
    refine nb_icmp_ne (tgt := 38) hx hb dX0_append_21 (by decide) (by omega) (by omega) (fun c2 => ?_) (fun c2 => ?_)
    · exact k38 (Or.inr (by omega))
    · refine lv_aload_n hx hb dX0_append_24 rfl (lv_at hl 0 rfl) ?_
      refine gX_5 S hK hP dX0_append_25 ?_
      refine lv_aload_n hx hb dX0_append_28 rfl (lv_at hl 0 rfl) ?_
      refine gX_3 S hK hP dX0_append_29 ?_
      refine lv_iconst (v := nI 1) hx hb dX0_append_32 (by decide) ?_
      refine nb_isub hx hb dX0_append_33 (by omega) ?_
      refine lv_iload_n hx hb dX0_append_34 rfl (lv_at hl 2 rfl) ?_
      refine nb_i2s hx hb dX0_append_35 (by omega) ?_
      refine nb_sast hx hb hK hP hD hS 5 1 rfl rfl (by omega) (by decide) (by omega) dX0_append_36 (fun H locs hP hD hS => ?_)
      have hP : va_P D vwCl (wX h0 a1 a2 a3 a4 a5 dB dS C F L MF (va_up ML (mc - 1) to_) mc cx cy) H := hP
      have hD : va_D A (wX h0 a1 a2 a3 a4 a5 dB dS C F L MF (va_up ML (mc - 1) to_) mc cx cy) := hD
      have hML : ∀ q, (va_up ML (mc - 1) to_) q < 256 := cu_upl hML (by omega)
      exact kret 37 ls (C, F, L, MF, va_up ML (mc - 1) to_, mc, cx, cy) H locs dX0_append_37 ⟨_, _, _, rfl, cu_app_old hIv hlt hft hto c1 (by omega), hMF, hML⟩ hP hD hS
end
section
set_option maxHeartbeats 4000000 in
set_option maxRecDepth 100000 in
/-- make -/
theorem mX0_make (l : Launch) (D : va_G) (h0 a1 a2 a3 a4 a5 : Nat) (dB dS : ClassId) (C F L MF ML : Nat → Nat) (mc cx cy : Nat) (sz : Nat) (S0 : Nat → Nat → Bool) (hC : ∀ q, C q < 128) (hF : ∀ q, F q < 256) (hL : ∀ q, L q < 256) (hR : cu_RX C F L S0) (hMF : ∀ q, MF q < 256) (hML : ∀ q, ML q < 256) (d how a b : Nat) (SA SB : Nat → Bool) (hd : d < 4) (hhow : how ≤ 2) (ha : a ≤ 4) (hb4 : b ≤ 4) (hkA : C a ≤ 40) (hkB : C b ≤ 40) (hIA : cu_Iv (C a) (fun j => F (40 * a + j)) (fun j => L (40 * a + j)) SA) (hIB : cu_Iv (C b) (fun j => F (40 * b + j)) (fun j => L (40 * b + j)) SB) : MetI l yX0_make cX0_make 15 rX0_make [.ref h0, .int (nI d), .int (nI how), .int (nI a), .int (nI b)] D (tX dB dS) (wX h0 a1 a2 a3 a4 a5 dB dS C F L MF ML mc cx cy) (uX h0 a1 a2 a3 a4 a5 dB dS) sz (fun r u => r = (cu_keep S0 d (cu_op how SA SB)).1 ∧ cu_XOK u (cu_keep S0 d (cu_op how SA SB)).2) := by
  refine metI_of (by decide) (Nat.le_of_ble_eq_true rfl) ?_
  intro p e s m args below meth c A H0 Q S hK hA hP hD hS kret ls hl
  have S : CallFix p m c cX0_make 15 s args lw_all RX0 := S
  have hx := S.1
  have hb := S.2.1
  have hts := S.2.2.2.2
  have hl : lv_has ls 15 [(0, .ref h0), (1, .int (nI d)), (2, .int (nI how)), (3, .int (nI a)), (4, .int (nI b))] := hl
  have outer : ∀ (n : Nat) (at_ i j mc : Nat) (MF ML : Nat → Nat), at_ ≤ 256 → i ≤ C a → j ≤ C b → (∀ t, t < i → L (40 * a + t) < at_) → (∀ t, t < j → L (40 * b + t) < at_) → cu_Iv mc MF ML (cu_to (cu_op how SA SB) at_) → (∀ q, MF q < 256) → (∀ q, ML q < 256) → 256 - at_ < n → ∀ (H : Heap) (locs : List Loc), va_P D vwCl (wX h0 a1 a2 a3 a4 a5 dB dS C F L MF ML mc cx cy) H → va_D A (wX h0 a1 a2 a3 a4 a5 dB dS C F L MF ML mc cx cy) → va_S A H0 H locs → ∀ ls : Array Slot, lv_has ls 15 [(0, .ref h0), (1, .int (nI d)), (2, .int (nI how)), (5, .int (nI (40 * a + i))), (6, .int (nI (40 * b + j))), (7, .int (nI (40 * a + C a))), (8, .int (nI (40 * b + C b))), (9, .int (nI at_))] → W p l e rX0_make s m args below meth c H locs 0 0 Q (F0 m 44 ls []) := by
    intro n
    induction n with
    | zero => intro at_ i j mc MF ML hat hi hj hi1 hj1 hIv hMF hML hm; exact absurd hm (Nat.not_lt_zero _)
    | succ n iho =>
      intro at_ i j mc MF ML hat hi hj hi1 hj1 hIv hMF hML hm H locs hP hD hS ls hl
      have hmc := cu_made_le hIA hIB hat hIv
      refine lv_iload hx hb dX0_make_44 (lv_at hl 7 rfl) ?_
      refine lv_sipush (v := nI 256) hx hb dX0_make_46 (by decide) ?_
      refine nb_icmp_ge (tgt := 325) hx hb dX0_make_49 (by decide) (by omega) (by omega) (fun c0 => ?_) (fun c0 => ?_)
      · have eat : at_ = 256 := by omega
        subst eat
        have hT : cu_Iv mc MF ML (cu_op how SA SB) := hIv.cong (fun n => cu_op_big (fun _ q => hIA.big q) (fun _ q => hIB.big q) n)
        refine lv_aload_n hx hb dX0_make_325 rfl (lv_at hl 0 rfl) ?_
        refine gX_3 S hK hP dX0_make_326 ?_
        refine lv_bipush (v := nI 40) hx hb dX0_make_329 (by decide) ?_
        refine nb_icmp_le (tgt := 337) hx hb dX0_make_331 (by decide) (by omega) (by omega) (fun c1 => ?_) (fun c1 => ?_)
        · have hkeep : cu_keep S0 d (cu_op how SA SB) = _ := cu_keep_yes hT c1
          have copy : ∀ (n : Nat) (t : Nat), t ≤ mc → mc - t < n → ∀ (H : Heap) (locs : List Loc), va_P D vwCl (wX h0 a1 a2 a3 a4 a5 dB dS C (fb_put F MF (40 * d) t) (fb_put L ML (40 * d) t) MF ML mc cx cy) H → va_D A (wX h0 a1 a2 a3 a4 a5 dB dS C (fb_put F MF (40 * d) t) (fb_put L ML (40 * d) t) MF ML mc cx cy) → va_S A H0 H locs → ∀ ls : Array Slot, lv_has ls 15 [(0, .ref h0), (1, .int (nI d)), (10, .int (nI t))] → W p l e rX0_make s m args below meth c H locs 0 0 Q (F0 m 340 ls []) := by
            intro n
            induction n with
            | zero => intro t ht hm; exact absurd hm (Nat.not_lt_zero _)
            | succ n ih =>
              intro t ht hm H locs hP hD hS ls hl
              have hF2 := cu_put_lt (a := 40 * d) (n := t) hF hMF
              have hL2 := cu_put_lt (a := 40 * d) (n := t) hL hML
              refine lv_iload hx hb dX0_make_340 (lv_at hl 2 rfl) ?_
              refine lv_aload_n hx hb dX0_make_342 rfl (lv_at hl 0 rfl) ?_
              refine gX_3 S hK hP dX0_make_343 ?_
              refine nb_icmp_ge (tgt := 393) hx hb dX0_make_346 (by decide) (by omega) (by omega) (fun c2 => ?_) (fun c2 => ?_)
              · have et : t = mc := by omega
                subst et
                refine lv_aload_n hx hb dX0_make_393 rfl (lv_at hl 0 rfl) ?_
                refine gX_0 S hK hP dX0_make_394 ?_
                refine lv_iload_n hx hb dX0_make_397 rfl (lv_at hl 1 rfl) ?_
                refine lv_aload_n hx hb dX0_make_398 rfl (lv_at hl 0 rfl) ?_
                refine gX_3 S hK hP dX0_make_399 ?_
                refine nb_i2b hx hb dX0_make_402 (by omega) ?_
                refine nb_bast hx hb hK hP hD hS 1 0 rfl rfl (by omega) (by decide) (by omega) dX0_make_403 (fun H locs hP hD hS => ?_)
                have hP : va_P D vwCl (wX h0 a1 a2 a3 a4 a5 dB dS (va_up C d (t)) (fb_put F MF (40 * d) t) (fb_put L ML (40 * d) t) MF ML (t) cx cy) H := hP
                have hD : va_D A (wX h0 a1 a2 a3 a4 a5 dB dS (va_up C d (t)) (fb_put F MF (40 * d) t) (fb_put L ML (40 * d) t) MF ML (t) cx cy) := hD
                refine lv_aload_n hx hb dX0_make_404 rfl (lv_at hl 0 rfl) ?_
                refine lv_iload_n hx hb dX0_make_405 rfl (lv_at hl 1 rfl) ?_
                have hC2 : ∀ q, va_up C d t q < 128 := cu_upl hC (by omega)
                have hR2 : cu_RX (va_up C d t) (fb_put F MF (40 * d) t) (fb_put L ML (40 * d) t) (cu_keep S0 d (cu_op how SA SB)).2 := by rw [hkeep]; exact cu_RX_set hR hd (by omega) hT
                refine cu_rcall (As := [.int (nI d)]) (rest := []) S (mX0_cells l D h0 a1 a2 a3 a4 a5 dB dS (va_up C d t) (fb_put F MF (40 * d) t) (fb_put L ML (40 * d) t) MF ML t cx cy (cu_keep S0 d (cu_op how SA SB)).2 hC2 hF2 hL2 hR2 (nI d)) (cwX0_cells hts ⟨Nat.le_of_ble_eq_true rfl, Nat.le_of_ble_eq_true rfl⟩) (cu_preW (va_recv hK hP (ci := 0) (q0 := 0) rfl rfl) hK hP) rfl hl.1 rfl (Nat.le_of_ble_eq_true rfl) dX0_make_406 (Nat.zero_le _) (Nat.zero_le _) ?_
                exact kret 409 ls (cu_on (fun a => nI (fb_ct ((cu_keep S0 d (cu_op how SA SB)).2 a) 256)) (nI d)) (va_up C d t, fb_put F MF (40 * d) t, fb_put L ML (40 * d) t, MF, ML, t, cx, cy) H locs dX0_make_409 ⟨by rw [cu_on_ok hd, hkeep]; dsimp only; rw [if_pos rfl], hC2, hF2, hL2, hMF, hML, hR2⟩ hP hD hS
              · refine lv_aload_n hx hb dX0_make_349 rfl (lv_at hl 0 rfl) ?_
                refine gX_1 S hK hP dX0_make_350 ?_
                refine lv_bipush (v := nI 40) hx hb dX0_make_353 (by decide) ?_
                refine lv_iload_n hx hb dX0_make_355 rfl (lv_at hl 1 rfl) ?_
                refine nb_imul hx hb dX0_make_356 ?_
                refine lv_iload hx hb dX0_make_357 (lv_at hl 2 rfl) ?_
                refine nb_iadd hx hb dX0_make_359 ?_
                refine lv_aload_n hx hb dX0_make_360 rfl (lv_at hl 0 rfl) ?_
                refine gX_4 S hK hP dX0_make_361 ?_
                refine lv_iload hx hb dX0_make_364 (lv_at hl 2 rfl) ?_
                refine nb_sald hx hb hK hP 4 1 rfl rfl (by omega) (by decide) dX0_make_366 ?_
                have b_1 := hMF t
                refine nb_sast hx hb hK hP hD hS 2 1 rfl rfl (by omega) (by decide) (by omega) dX0_make_367 (fun H locs hP hD hS => ?_)
                have hP : va_P D vwCl (wX h0 a1 a2 a3 a4 a5 dB dS C (va_up (fb_put F MF (40 * d) t) ((40 * d) + t) (MF t)) (fb_put L ML (40 * d) t) MF ML mc cx cy) H := hP
                have hD : va_D A (wX h0 a1 a2 a3 a4 a5 dB dS C (va_up (fb_put F MF (40 * d) t) ((40 * d) + t) (MF t)) (fb_put L ML (40 * d) t) MF ML mc cx cy) := hD
                refine lv_aload_n hx hb dX0_make_368 rfl (lv_at hl 0 rfl) ?_
                refine gX_2 S hK hP dX0_make_369 ?_
                refine lv_bipush (v := nI 40) hx hb dX0_make_372 (by decide) ?_
                refine lv_iload_n hx hb dX0_make_374 rfl (lv_at hl 1 rfl) ?_
                refine nb_imul hx hb dX0_make_375 ?_
                refine lv_iload hx hb dX0_make_376 (lv_at hl 2 rfl) ?_
                refine nb_iadd hx hb dX0_make_378 ?_
                refine lv_aload_n hx hb dX0_make_379 rfl (lv_at hl 0 rfl) ?_
                refine gX_5 S hK hP dX0_make_380 ?_
                refine lv_iload hx hb dX0_make_383 (lv_at hl 2 rfl) ?_
                refine nb_sald hx hb hK hP 5 1 rfl rfl (by omega) (by decide) dX0_make_385 ?_
                have b_2 := hML t
                refine nb_sast hx hb hK hP hD hS 3 1 rfl rfl (by omega) (by decide) (by omega) dX0_make_386 (fun H locs hP hD hS => ?_)
                have hP : va_P D vwCl (wX h0 a1 a2 a3 a4 a5 dB dS C (va_up (fb_put F MF (40 * d) t) ((40 * d) + t) (MF t)) (va_up (fb_put L ML (40 * d) t) ((40 * d) + t) (ML t)) MF ML mc cx cy) H := hP
                have hD : va_D A (wX h0 a1 a2 a3 a4 a5 dB dS C (va_up (fb_put F MF (40 * d) t) ((40 * d) + t) (MF t)) (va_up (fb_put L ML (40 * d) t) ((40 * d) + t) (ML t)) MF ML mc cx cy) := hD
                refine lv_iinc (v := nI (t + 1)) (lv' := [(10, .int (nI (t + 1))), (0, .ref h0), (1, .int (nI d))]) hx hb dX0_make_387 hl (k := 2) rfl (nI_1 _) (by decide) rfl (fun ls hl => ?_)
                refine lv_goto (tgt := 340) hx hb dX0_make_390 (by decide) ?_
                rw [cu_put_succ, cu_put_succ] at hP hD
                exact ih (t + 1) (by omega) (by omega) H locs hP hD hS ls (lv_sub hl [1, 2, 0] rfl)
          refine lv_iconst (v := nI 0) hx hb dX0_make_337 (by decide) ?_
          refine lv_istore (lv' := [(10, .int (nI 0)), (0, .ref h0), (1, .int (nI d)), (2, .int (nI how)), (5, .int (nI (40 * a + i))), (6, .int (nI (40 * b + j))), (7, .int (nI (40 * a + C a))), (8, .int (nI (40 * b + C b))), (9, .int (nI (256)))]) hx hb dX0_make_338 hl (by decide) rfl (fun ls hl => ?_)
          have hP : va_P D vwCl (wX h0 a1 a2 a3 a4 a5 dB dS C (fb_put F MF (40 * d) 0) (fb_put L ML (40 * d) 0) MF ML mc cx cy) H := by rw [fb_put_0, fb_put_0]; exact hP
          have hD : va_D A (wX h0 a1 a2 a3 a4 a5 dB dS C (fb_put F MF (40 * d) 0) (fb_put L ML (40 * d) 0) MF ML mc cx cy) := by rw [fb_put_0, fb_put_0]; exact hD
          exact copy (mc + 1) 0 (Nat.zero_le _) (by omega) H locs hP hD hS ls (lv_sub hl [1, 2, 0] rfl)
        · have hkeep : cu_keep S0 d (cu_op how SA SB) = _ := cu_keep_no hT (by omega)
          refine lv_bipush (v := (-2)) hx hb dX0_make_334 (by decide) ?_
          exact kret 336 ls (-2) (C, F, L, MF, ML, mc, cx, cy) H locs dX0_make_336 ⟨by rw [hkeep], hC, hF, hL, hMF, hML, by rw [hkeep]; exact hR⟩ hP hD hS
      · have k102 : ∀ (i j : Nat), i ≤ C a → j ≤ C b → (∀ t, t < i → L (40 * a + t) < at_) → (∀ t, t < j → L (40 * b + t) < at_) → (i < C a → at_ ≤ L (40 * a + i)) → (j < C b → at_ ≤ L (40 * b + j)) → ∀ ls : Array Slot, lv_has ls 15 [(0, .ref h0), (1, .int (nI d)), (2, .int (nI how)), (5, .int (nI (40 * a + i))), (6, .int (nI (40 * b + j))), (7, .int (nI (40 * a + C a))), (8, .int (nI (40 * b + C b))), (9, .int (nI at_))] → W p l e rX0_make s m args below meth c H locs 0 0 Q (F0 m 102 ls []) := by
          intro i j hi hj hi1 hj1 hi2 hj2 ls hl
          have hinA : SA at_ = (decide (i < C a) && decide (F (40 * a + i) ≤ at_)) := hIA.isin hi hi1 hi2
          have hinB : SB at_ = (decide (j < C b) && decide (F (40 * b + j) ≤ at_)) := hIB.isin hj hj1 hj2
          obtain ⟨nA, hnA⟩ : ∃ z, z = cu_nxt (C a) (fun j => F (40 * a + j)) (fun j => L (40 * a + j)) i at_ := ⟨_, rfl⟩
          obtain ⟨nB, hnB⟩ : ∃ z, z = cu_nxt (C b) (fun j => F (40 * b + j)) (fun j => L (40 * b + j)) j at_ := ⟨_, rfl⟩
          have hA3 := hIA.nxt hi hi1 hi2 (by omega)
          have hB3 := hIB.nxt hj hj1 hj2 (by omega)
          rw [← hnA] at hA3
          rw [← hnB] at hB3
          obtain ⟨hA3, hA4, hA5⟩ := hA3
          obtain ⟨hB3, hB4, hB5⟩ := hB3
          have hnA : nA = if i < C a then (if F (40 * a + i) ≤ at_ then L (40 * a + i) + 1 else F (40 * a + i)) else 256 := hnA
          have hnB : nB = if j < C b then (if F (40 * b + j) ≤ at_ then L (40 * b + j) + 1 else F (40 * b + j)) else 256 := hnB
          have k241 : ∀ ls : Array Slot, lv_has ls 15 [(0, .ref h0), (1, .int (nI d)), (2, .int (nI how)), (5, .int (nI (40 * a + i))), (6, .int (nI (40 * b + j))), (7, .int (nI (40 * a + C a))), (8, .int (nI (40 * b + C b))), (9, .int (nI at_)), (10, .int (nI (SA at_).toNat)), (11, .int (nI (SB at_).toNat)), (12, .int (nI (min nA nB)))] → W p l e rX0_make s m args below meth c H locs 0 0 Q (F0 m 241 ls []) := by
            intro  ls hl
            have hcon : ∀ n, at_ ≤ n → n < min nA nB → cu_op how SA SB n = cu_op how SA SB at_ := fun n q1 q2 => cu_op_const (hA5 n q1 (by omega)) (hB5 n q1 (by omega))
            have k301 : W p l e rX0_make s m args below meth c H locs 0 0 Q (F0 m 301 ls [.int (nI (cu_op how SA SB at_).toNat)]) := by
              refine lv_istore (lv' := [(14, .int (nI (cu_op how SA SB at_).toNat)), (0, .ref h0), (1, .int (nI d)), (2, .int (nI how)), (5, .int (nI (40 * a + i))), (6, .int (nI (40 * b + j))), (7, .int (nI (40 * a + C a))), (8, .int (nI (40 * b + C b))), (9, .int (nI at_)), (10, .int (nI (SA at_).toNat)), (11, .int (nI (SB at_).toNat)), (12, .int (nI (min nA nB)))]) hx hb dX0_make_301 hl (by decide) rfl (fun ls hl => ?_)
              refine lv_iload hx hb dX0_make_303 (lv_at hl 0 rfl) ?_
              refine nb_if_eqB (tgt := 318) hx hb dX0_make_305 (by decide) (fun c9 => ?_) (fun c9 => ?_)
              · refine lv_iload hx hb dX0_make_318 (lv_at hl 11 rfl) ?_
                refine lv_istore (lv' := [(9, .int (nI (min nA nB))), (14, .int (nI (cu_op how SA SB at_).toNat)), (0, .ref h0), (1, .int (nI d)), (2, .int (nI how)), (5, .int (nI (40 * a + i))), (6, .int (nI (40 * b + j))), (7, .int (nI (40 * a + C a))), (8, .int (nI (40 * b + C b))), (10, .int (nI (SA at_).toNat)), (11, .int (nI (SB at_).toNat)), (12, .int (nI (min nA nB)))]) hx hb dX0_make_320 hl (by decide) rfl (fun ls hl => ?_)
                refine lv_goto (tgt := 44) hx hb dX0_make_322 (by decide) ?_
                exact iho (min nA nB) i j mc MF ML (by omega) hi hj (fun t q => by have := hi1 t q; omega) (fun t q => by have := hj1 t q; omega) (hIv.cong (fun n => cu_to_out (by omega) (fun k q1 q2 => (hcon k q1 q2).trans c9) n)) hMF hML (by omega) H locs hP hD hS ls (lv_sub hl [2, 3, 4, 5, 6, 7, 8, 0] rfl)
              · refine lv_aload_n hx hb dX0_make_308 rfl (lv_at hl 1 rfl) ?_
                refine lv_iload hx hb dX0_make_309 (lv_at hl 8 rfl) ?_
                refine lv_iload hx hb dX0_make_311 (lv_at hl 11 rfl) ?_
                refine lv_iconst (v := nI 1) hx hb dX0_make_313 (by decide) ?_
                refine nb_isub hx hb dX0_make_314 (by omega) ?_
                refine cu_vcall (wr := []) (As := [.int (nI at_), .int (nI ((min nA nB) - 1))]) (rest := []) S (mX0_append l D h0 a1 a2 a3 a4 a5 dB dS C F L MF ML mc cx cy H.size at_ (min nA nB - 1) (cu_to (cu_op how SA SB) at_) hMF hML hIv (by omega) (fun n q => by simp [cu_to] at q; exact q.1) (by omega) (by omega)) (cwX0_append hts ⟨Nat.le_of_ble_eq_true rfl, Nat.le_of_ble_eq_true rfl⟩) (va_recv hK hP (ci := 0) (q0 := 0) rfl rfl) hA hK hP (fun k q h => by cases h) (by rw [List.append_nil]; exact hD) hS rfl hl.1 rfl (Nat.le_of_ble_eq_true rfl) dX0_make_315 (Nat.zero_le _) (Nat.zero_le _) (fun u_ H locs hq hP _ hD hS => ?_)
                obtain ⟨mc2, MF2, ML2, rfl, hIv2, hMF2, hML2⟩ := hq
                rw [List.append_nil] at hD
                have hP : va_P D vwCl (wX h0 a1 a2 a3 a4 a5 dB dS C F L MF2 ML2 mc2 cx cy) H := hP
                have hD : va_D A (wX h0 a1 a2 a3 a4 a5 dB dS C F L MF2 ML2 mc2 cx cy) := hD
                refine lv_iload hx hb dX0_make_318 (lv_at hl 11 rfl) ?_
                refine lv_istore (lv' := [(9, .int (nI (min nA nB))), (14, .int (nI (cu_op how SA SB at_).toNat)), (0, .ref h0), (1, .int (nI d)), (2, .int (nI how)), (5, .int (nI (40 * a + i))), (6, .int (nI (40 * b + j))), (7, .int (nI (40 * a + C a))), (8, .int (nI (40 * b + C b))), (10, .int (nI (SA at_).toNat)), (11, .int (nI (SB at_).toNat)), (12, .int (nI (min nA nB)))]) hx hb dX0_make_320 hl (by decide) rfl (fun ls hl => ?_)
                refine lv_goto (tgt := 44) hx hb dX0_make_322 (by decide) ?_
                exact iho (min nA nB) i j mc2 MF2 ML2 (by omega) hi hj (fun t q => by have := hi1 t q; omega) (fun t q => by have := hj1 t q; omega) (hIv2.cong (fun n => cu_to_in (by omega) (fun k q1 q2 => (hcon k q1 q2).trans c9) n)) hMF2 hML2 (by omega) H locs hP hD hS ls (lv_sub hl [2, 3, 4, 5, 6, 7, 8, 0] rfl)
            refine lv_iload_n hx hb dX0_make_241 rfl (lv_at hl 2 rfl) ?_
            refine nb_if_ne (tgt := 263) hx hb dX0_make_242 (by decide) (by omega) (fun c3 => ?_) (fun c3 => ?_)
            · have e0 : ¬ how = 0 := by omega
              refine lv_iload_n hx hb dX0_make_263 rfl (lv_at hl 2 rfl) ?_
              refine lv_iconst (v := nI 1) hx hb dX0_make_264 (by decide) ?_
              refine nb_icmp_ne (tgt := 286) hx hb dX0_make_265 (by decide) (by omega) (by omega) (fun c4 => ?_) (fun c4 => ?_)
              · have e1 : ¬ how = 1 := by omega
                refine lv_iload hx hb dX0_make_286 (lv_at hl 8 rfl) ?_
                refine nb_if_eqB (tgt := 300) hx hb dX0_make_288 (by decide) (fun c5 => ?_) (fun c5 => ?_)
                · refine lv_iconst (v := nI 0) hx hb dX0_make_300 (by decide) ?_
                  refine nb_top (y := nI (cu_op how SA SB at_).toNat) (by rw [show cu_op how SA SB at_ = false by simp [cu_op, e0, e1, c5]]; rfl) ?_
                  exact k301
                · refine lv_iload hx hb dX0_make_291 (lv_at hl 9 rfl) ?_
                  refine nb_if_neB (tgt := 300) hx hb dX0_make_293 (by decide) (fun c6 => ?_) (fun c6 => ?_)
                  · refine lv_iconst (v := nI 0) hx hb dX0_make_300 (by decide) ?_
                    refine nb_top (y := nI (cu_op how SA SB at_).toNat) (by rw [show cu_op how SA SB at_ = false by simp [cu_op, e0, e1, c5, c6]]; rfl) ?_
                    exact k301
                  · refine lv_iconst (v := nI 1) hx hb dX0_make_296 (by decide) ?_
                    refine lv_goto (tgt := 301) hx hb dX0_make_297 (by decide) ?_
                    refine nb_top (y := nI (cu_op how SA SB at_).toNat) (by rw [show cu_op how SA SB at_ = true by simp [cu_op, e0, e1, c5, c6]]; rfl) ?_
                    exact k301
              · refine lv_iload hx hb dX0_make_268 (lv_at hl 8 rfl) ?_
                refine nb_if_neB (tgt := 278) hx hb dX0_make_270 (by decide) (fun c5 => ?_) (fun c5 => ?_)
                · refine lv_iconst (v := nI 1) hx hb dX0_make_278 (by decide) ?_
                  refine lv_goto (tgt := 301) hx hb dX0_make_279 (by decide) ?_
                  refine nb_top (y := nI (cu_op how SA SB at_).toNat) (by rw [show cu_op how SA SB at_ = true by simp [cu_op, c4, c5]]; rfl) ?_
                  exact k301
                · refine lv_iload hx hb dX0_make_273 (lv_at hl 9 rfl) ?_
                  refine nb_if_eqB (tgt := 282) hx hb dX0_make_275 (by decide) (fun c6 => ?_) (fun c6 => ?_)
                  · refine lv_iconst (v := nI 0) hx hb dX0_make_282 (by decide) ?_
                    refine lv_goto (tgt := 301) hx hb dX0_make_283 (by decide) ?_
                    refine nb_top (y := nI (cu_op how SA SB at_).toNat) (by rw [show cu_op how SA SB at_ = false by simp [cu_op, c4, c5, c6]]; rfl) ?_
                    exact k301
                  · refine lv_iconst (v := nI 1) hx hb dX0_make_278 (by decide) ?_
                    refine lv_goto (tgt := 301) hx hb dX0_make_279 (by decide) ?_
                    refine nb_top (y := nI (cu_op how SA SB at_).toNat) (by rw [show cu_op how SA SB at_ = true by simp [cu_op, c4, c5, c6]]; rfl) ?_
                    exact k301
            · refine lv_iload hx hb dX0_make_245 (lv_at hl 8 rfl) ?_
              refine nb_if_eqB (tgt := 259) hx hb dX0_make_247 (by decide) (fun c5 => ?_) (fun c5 => ?_)
              · refine lv_iconst (v := nI 0) hx hb dX0_make_259 (by decide) ?_
                refine lv_goto (tgt := 301) hx hb dX0_make_260 (by decide) ?_
                refine nb_top (y := nI (cu_op how SA SB at_).toNat) (by rw [show cu_op how SA SB at_ = false by simp [cu_op, c3, c5]]; rfl) ?_
                exact k301
              · refine lv_iload hx hb dX0_make_250 (lv_at hl 9 rfl) ?_
                refine nb_if_eqB (tgt := 259) hx hb dX0_make_252 (by decide) (fun c6 => ?_) (fun c6 => ?_)
                · refine lv_iconst (v := nI 0) hx hb dX0_make_259 (by decide) ?_
                  refine lv_goto (tgt := 301) hx hb dX0_make_260 (by decide) ?_
                  refine nb_top (y := nI (cu_op how SA SB at_).toNat) (by rw [show cu_op how SA SB at_ = false by simp [cu_op, c3, c5, c6]]; rfl) ?_
                  exact k301
                · refine lv_iconst (v := nI 1) hx hb dX0_make_255 (by decide) ?_
                  refine lv_goto (tgt := 301) hx hb dX0_make_256 (by decide) ?_
                  refine nb_top (y := nI (cu_op how SA SB at_).toNat) (by rw [show cu_op how SA SB at_ = true by simp [cu_op, c3, c5, c6]]; rfl) ?_
                  exact k301
          have k230 : ∀ ls : Array Slot, lv_has ls 15 [(0, .ref h0), (1, .int (nI d)), (2, .int (nI how)), (5, .int (nI (40 * a + i))), (6, .int (nI (40 * b + j))), (7, .int (nI (40 * a + C a))), (8, .int (nI (40 * b + C b))), (9, .int (nI at_)), (10, .int (nI (SA at_).toNat)), (11, .int (nI (SB at_).toNat)), (12, .int (nI nA)), (13, .int (nI nB))] → W p l e rX0_make s m args below meth c H locs 0 0 Q (F0 m 230 ls []) := by
            intro  ls hl
            refine lv_iload hx hb dX0_make_230 (lv_at hl 11 rfl) ?_
            refine lv_iload hx hb dX0_make_232 (lv_at hl 10 rfl) ?_
            refine nb_icmp_ge (tgt := 241) hx hb dX0_make_234 (by decide) (by omega) (by omega) (fun c3 => ?_) (fun c3 => ?_)
            · have hl : lv_has ls 15 [(0, .ref h0), (1, .int (nI d)), (2, .int (nI how)), (5, .int (nI (40 * a + i))), (6, .int (nI (40 * b + j))), (7, .int (nI (40 * a + C a))), (8, .int (nI (40 * b + C b))), (9, .int (nI at_)), (10, .int (nI (SA at_).toNat)), (11, .int (nI (SB at_).toNat)), (12, .int (nI (min nA nB))), (13, .int (nI nB))] := by rw [show min nA nB = nA by omega]; exact hl
              exact k241  ls (lv_sub hl [0, 1, 2, 3, 4, 5, 6, 7, 8, 9, 10] rfl)
            · refine lv_iload hx hb dX0_make_237 (lv_at hl 11 rfl) ?_
              refine lv_istore (lv' := [(12, .int (nI nB)), (0, .ref h0), (1, .int (nI d)), (2, .int (nI how)), (5, .int (nI (40 * a + i))), (6, .int (nI (40 * b + j))), (7, .int (nI (40 * a + C a))), (8, .int (nI (40 * b + C b))), (9, .int (nI at_)), (10, .int (nI (SA at_).toNat)), (11, .int (nI (SB at_).toNat)), (13, .int (nI nB))]) hx hb dX0_make_239 hl (by decide) rfl (fun ls hl => ?_)
              have hl : lv_has ls 15 [(12, .int (nI (min nA nB))), (0, .ref h0), (1, .int (nI d)), (2, .int (nI how)), (5, .int (nI (40 * a + i))), (6, .int (nI (40 * b + j))), (7, .int (nI (40 * a + C a))), (8, .int (nI (40 * b + C b))), (9, .int (nI at_)), (10, .int (nI (SA at_).toNat)), (11, .int (nI (SB at_).toNat)), (13, .int (nI nB))] := by rw [show min nA nB = nB by omega]; exact hl
              exact k241  ls (lv_sub hl [1, 2, 3, 4, 5, 6, 7, 8, 9, 10, 0] rfl)
          have k192 : ∀ ls : Array Slot, lv_has ls 15 [(0, .ref h0), (1, .int (nI d)), (2, .int (nI how)), (5, .int (nI (40 * a + i))), (6, .int (nI (40 * b + j))), (7, .int (nI (40 * a + C a))), (8, .int (nI (40 * b + C b))), (9, .int (nI at_)), (10, .int (nI (SA at_).toNat)), (11, .int (nI (SB at_).toNat)), (12, .int (nI nA))] → W p l e rX0_make s m args below meth c H locs 0 0 Q (F0 m 192 ls []) := by
            intro  ls hl
            refine lv_sipush (v := nI 256) hx hb dX0_make_192 (by decide) ?_
            refine lv_istore (lv' := [(13, .int (nI 256)), (0, .ref h0), (1, .int (nI d)), (2, .int (nI how)), (5, .int (nI (40 * a + i))), (6, .int (nI (40 * b + j))), (7, .int (nI (40 * a + C a))), (8, .int (nI (40 * b + C b))), (9, .int (nI at_)), (10, .int (nI (SA at_).toNat)), (11, .int (nI (SB at_).toNat)), (12, .int (nI nA))]) hx hb dX0_make_195 hl (by decide) rfl (fun ls hl => ?_)
            refine lv_iload hx hb dX0_make_197 (lv_at hl 5 rfl) ?_
            refine lv_iload hx hb dX0_make_199 (lv_at hl 7 rfl) ?_
            refine nb_icmp_ge (tgt := 230) hx hb dX0_make_201 (by decide) (by omega) (by omega) (fun c3 => ?_) (fun c3 => ?_)
            · have hl : lv_has ls 15 [(13, .int (nI nB)), (0, .ref h0), (1, .int (nI d)), (2, .int (nI how)), (5, .int (nI (40 * a + i))), (6, .int (nI (40 * b + j))), (7, .int (nI (40 * a + C a))), (8, .int (nI (40 * b + C b))), (9, .int (nI at_)), (10, .int (nI (SA at_).toNat)), (11, .int (nI (SB at_).toNat)), (12, .int (nI nA))] := by rw [show nB = 256 by rw [hnB, if_neg (by omega)]]; exact hl
              exact k230  ls (lv_sub hl [1, 2, 3, 4, 5, 6, 7, 8, 9, 10, 11, 0] rfl)
            · refine lv_iload hx hb dX0_make_204 (lv_at hl 10 rfl) ?_
              refine nb_if_eqB (tgt := 221) hx hb dX0_make_206 (by decide) (fun c4 => ?_) (fun c4 => ?_)
              · refine lv_aload_n hx hb dX0_make_221 rfl (lv_at hl 1 rfl) ?_
                refine gX_1 S hK hP dX0_make_222 ?_
                refine lv_iload hx hb dX0_make_225 (lv_at hl 5 rfl) ?_
                refine nb_sald hx hb hK hP 2 1 rfl rfl (by omega) (by decide) dX0_make_227 ?_
                have b_3 := hF (40 * b + j)
                refine lv_istore (lv' := [(13, .int (nI (F (40 * b + j)))), (0, .ref h0), (1, .int (nI d)), (2, .int (nI how)), (5, .int (nI (40 * a + i))), (6, .int (nI (40 * b + j))), (7, .int (nI (40 * a + C a))), (8, .int (nI (40 * b + C b))), (9, .int (nI at_)), (10, .int (nI (SA at_).toNat)), (11, .int (nI (SB at_).toNat)), (12, .int (nI nA))]) hx hb dX0_make_228 hl (by decide) rfl (fun ls hl => ?_)
                have hl : lv_has ls 15 [(13, .int (nI nB)), (0, .ref h0), (1, .int (nI d)), (2, .int (nI how)), (5, .int (nI (40 * a + i))), (6, .int (nI (40 * b + j))), (7, .int (nI (40 * a + C a))), (8, .int (nI (40 * b + C b))), (9, .int (nI at_)), (10, .int (nI (SA at_).toNat)), (11, .int (nI (SB at_).toNat)), (12, .int (nI nA))] := by rw [show nB = F (40 * b + j) by rw [hnB, if_pos (by omega), if_neg (fun q => by rw [hinB, decide_eq_true q, decide_eq_true (show j < C b by omega)] at c4; exact absurd c4 (by decide))]]; exact hl
                exact k230  ls (lv_sub hl [1, 2, 3, 4, 5, 6, 7, 8, 9, 10, 11, 0] rfl)
              · refine lv_aload_n hx hb dX0_make_209 rfl (lv_at hl 1 rfl) ?_
                refine gX_2 S hK hP dX0_make_210 ?_
                refine lv_iload hx hb dX0_make_213 (lv_at hl 5 rfl) ?_
                refine nb_sald hx hb hK hP 3 1 rfl rfl (by omega) (by decide) dX0_make_215 ?_
                have b_4 := hL (40 * b + j)
                refine lv_iconst (v := nI 1) hx hb dX0_make_216 (by decide) ?_
                refine nb_iadd hx hb dX0_make_217 ?_
                refine lv_goto (tgt := 228) hx hb dX0_make_218 (by decide) ?_
                refine lv_istore (lv' := [(13, .int (nI ((L (40 * b + j)) + 1))), (0, .ref h0), (1, .int (nI d)), (2, .int (nI how)), (5, .int (nI (40 * a + i))), (6, .int (nI (40 * b + j))), (7, .int (nI (40 * a + C a))), (8, .int (nI (40 * b + C b))), (9, .int (nI at_)), (10, .int (nI (SA at_).toNat)), (11, .int (nI (SB at_).toNat)), (12, .int (nI nA))]) hx hb dX0_make_228 hl (by decide) rfl (fun ls hl => ?_)
                have hl : lv_has ls 15 [(13, .int (nI nB)), (0, .ref h0), (1, .int (nI d)), (2, .int (nI how)), (5, .int (nI (40 * a + i))), (6, .int (nI (40 * b + j))), (7, .int (nI (40 * a + C a))), (8, .int (nI (40 * b + C b))), (9, .int (nI at_)), (10, .int (nI (SA at_).toNat)), (11, .int (nI (SB at_).toNat)), (12, .int (nI nA))] := by rw [show nB = L (40 * b + j) + 1 by rw [hnB, if_pos (by omega), if_pos (by rw [hinB] at c4; simp at c4; omega)]]; exact hl
                exact k230  ls (lv_sub hl [1, 2, 3, 4, 5, 6, 7, 8, 9, 10, 11, 0] rfl)
          have k154 : ∀ ls : Array Slot, lv_has ls 15 [(0, .ref h0), (1, .int (nI d)), (2, .int (nI how)), (5, .int (nI (40 * a + i))), (6, .int (nI (40 * b + j))), (7, .int (nI (40 * a + C a))), (8, .int (nI (40 * b + C b))), (9, .int (nI at_)), (10, .int (nI (SA at_).toNat)), (11, .int (nI (SB at_).toNat))] → W p l e rX0_make s m args below meth c H locs 0 0 Q (F0 m 154 ls []) := by
            intro  ls hl
            refine lv_sipush (v := nI 256) hx hb dX0_make_154 (by decide) ?_
            refine lv_istore (lv' := [(12, .int (nI 256)), (0, .ref h0), (1, .int (nI d)), (2, .int (nI how)), (5, .int (nI (40 * a + i))), (6, .int (nI (40 * b + j))), (7, .int (nI (40 * a + C a))), (8, .int (nI (40 * b + C b))), (9, .int (nI at_)), (10, .int (nI (SA at_).toNat)), (11, .int (nI (SB at_).toNat))]) hx hb dX0_make_157 hl (by decide) rfl (fun ls hl => ?_)
            refine lv_iload hx hb dX0_make_159 (lv_at hl 4 rfl) ?_
            refine lv_iload hx hb dX0_make_161 (lv_at hl 6 rfl) ?_
            refine nb_icmp_ge (tgt := 192) hx hb dX0_make_163 (by decide) (by omega) (by omega) (fun c3 => ?_) (fun c3 => ?_)
            · have hl : lv_has ls 15 [(12, .int (nI nA)), (0, .ref h0), (1, .int (nI d)), (2, .int (nI how)), (5, .int (nI (40 * a + i))), (6, .int (nI (40 * b + j))), (7, .int (nI (40 * a + C a))), (8, .int (nI (40 * b + C b))), (9, .int (nI at_)), (10, .int (nI (SA at_).toNat)), (11, .int (nI (SB at_).toNat))] := by rw [show nA = 256 by rw [hnA, if_neg (by omega)]]; exact hl
              exact k192  ls (lv_sub hl [1, 2, 3, 4, 5, 6, 7, 8, 9, 10, 0] rfl)
            · refine lv_iload hx hb dX0_make_166 (lv_at hl 9 rfl) ?_
              refine nb_if_eqB (tgt := 183) hx hb dX0_make_168 (by decide) (fun c4 => ?_) (fun c4 => ?_)
              · refine lv_aload_n hx hb dX0_make_183 rfl (lv_at hl 1 rfl) ?_
                refine gX_1 S hK hP dX0_make_184 ?_
                refine lv_iload hx hb dX0_make_187 (lv_at hl 4 rfl) ?_
                refine nb_sald hx hb hK hP 2 1 rfl rfl (by omega) (by decide) dX0_make_189 ?_
                have b_5 := hF (40 * a + i)
                refine lv_istore (lv' := [(12, .int (nI (F (40 * a + i)))), (0, .ref h0), (1, .int (nI d)), (2, .int (nI how)), (5, .int (nI (40 * a + i))), (6, .int (nI (40 * b + j))), (7, .int (nI (40 * a + C a))), (8, .int (nI (40 * b + C b))), (9, .int (nI at_)), (10, .int (nI (SA at_).toNat)), (11, .int (nI (SB at_).toNat))]) hx hb dX0_make_190 hl (by decide) rfl (fun ls hl => ?_)
                have hl : lv_has ls 15 [(12, .int (nI nA)), (0, .ref h0), (1, .int (nI d)), (2, .int (nI how)), (5, .int (nI (40 * a + i))), (6, .int (nI (40 * b + j))), (7, .int (nI (40 * a + C a))), (8, .int (nI (40 * b + C b))), (9, .int (nI at_)), (10, .int (nI (SA at_).toNat)), (11, .int (nI (SB at_).toNat))] := by rw [show nA = F (40 * a + i) by rw [hnA, if_pos (by omega), if_neg (fun q => by rw [hinA, decide_eq_true q, decide_eq_true (show i < C a by omega)] at c4; exact absurd c4 (by decide))]]; exact hl
                exact k192  ls (lv_sub hl [1, 2, 3, 4, 5, 6, 7, 8, 9, 10, 0] rfl)
              · refine lv_aload_n hx hb dX0_make_171 rfl (lv_at hl 1 rfl) ?_
                refine gX_2 S hK hP dX0_make_172 ?_
                refine lv_iload hx hb dX0_make_175 (lv_at hl 4 rfl) ?_
                refine nb_sald hx hb hK hP 3 1 rfl rfl (by omega) (by decide) dX0_make_177 ?_
                have b_6 := hL (40 * a + i)
                refine lv_iconst (v := nI 1) hx hb dX0_make_178 (by decide) ?_
                refine nb_iadd hx hb dX0_make_179 ?_
                refine lv_goto (tgt := 190) hx hb dX0_make_180 (by decide) ?_
                refine lv_istore (lv' := [(12, .int (nI ((L (40 * a + i)) + 1))), (0, .ref h0), (1, .int (nI d)), (2, .int (nI how)), (5, .int (nI (40 * a + i))), (6, .int (nI (40 * b + j))), (7, .int (nI (40 * a + C a))), (8, .int (nI (40 * b + C b))), (9, .int (nI at_)), (10, .int (nI (SA at_).toNat)), (11, .int (nI (SB at_).toNat))]) hx hb dX0_make_190 hl (by decide) rfl (fun ls hl => ?_)
                have hl : lv_has ls 15 [(12, .int (nI nA)), (0, .ref h0), (1, .int (nI d)), (2, .int (nI how)), (5, .int (nI (40 * a + i))), (6, .int (nI (40 * b + j))), (7, .int (nI (40 * a + C a))), (8, .int (nI (40 * b + C b))), (9, .int (nI at_)), (10, .int (nI (SA at_).toNat)), (11, .int (nI (SB at_).toNat))] := by rw [show nA = L (40 * a + i) + 1 by rw [hnA, if_pos (by omega), if_pos (by rw [hinA] at c4; simp at c4; omega)]]; exact hl
                exact k192  ls (lv_sub hl [1, 2, 3, 4, 5, 6, 7, 8, 9, 10, 0] rfl)
          have k128 : ∀ ls : Array Slot, lv_has ls 15 [(0, .ref h0), (1, .int (nI d)), (2, .int (nI how)), (5, .int (nI (40 * a + i))), (6, .int (nI (40 * b + j))), (7, .int (nI (40 * a + C a))), (8, .int (nI (40 * b + C b))), (9, .int (nI at_)), (10, .int (nI (SA at_).toNat))] → W p l e rX0_make s m args below meth c H locs 0 0 Q (F0 m 128 ls []) := by
            intro  ls hl
            refine lv_iload hx hb dX0_make_128 (lv_at hl 4 rfl) ?_
            refine lv_iload hx hb dX0_make_130 (lv_at hl 6 rfl) ?_
            refine nb_icmp_ge (tgt := 151) hx hb dX0_make_132 (by decide) (by omega) (by omega) (fun c3 => ?_) (fun c3 => ?_)
            · refine lv_iconst (v := nI 0) hx hb dX0_make_151 (by decide) ?_
              refine nb_top (y := nI (SB at_).toNat) (by rw [hinB, decide_eq_false (show ¬ j < C b by omega), Bool.false_and]; rfl) ?_
              refine lv_istore (lv' := [(11, .int (nI (SB at_).toNat)), (0, .ref h0), (1, .int (nI d)), (2, .int (nI how)), (5, .int (nI (40 * a + i))), (6, .int (nI (40 * b + j))), (7, .int (nI (40 * a + C a))), (8, .int (nI (40 * b + C b))), (9, .int (nI at_)), (10, .int (nI (SA at_).toNat))]) hx hb dX0_make_152 hl (by decide) rfl (fun ls hl => ?_)
              exact k154  ls (lv_sub hl [1, 2, 3, 4, 5, 6, 7, 8, 9, 0] rfl)
            · refine lv_aload_n hx hb dX0_make_135 rfl (lv_at hl 0 rfl) ?_
              refine gX_1 S hK hP dX0_make_136 ?_
              refine lv_iload hx hb dX0_make_139 (lv_at hl 4 rfl) ?_
              refine nb_sald hx hb hK hP 2 1 rfl rfl (by omega) (by decide) dX0_make_141 ?_
              have b_7 := hF (40 * b + j)
              refine lv_iload hx hb dX0_make_142 (lv_at hl 7 rfl) ?_
              refine nb_icmp_gt (tgt := 151) hx hb dX0_make_144 (by decide) (by omega) (by omega) (fun c4 => ?_) (fun c4 => ?_)
              · refine lv_iconst (v := nI 0) hx hb dX0_make_151 (by decide) ?_
                refine nb_top (y := nI (SB at_).toNat) (by rw [hinB, decide_eq_false (show ¬ F (40 * b + j) ≤ at_ by omega), Bool.and_false]; rfl) ?_
                refine lv_istore (lv' := [(11, .int (nI (SB at_).toNat)), (0, .ref h0), (1, .int (nI d)), (2, .int (nI how)), (5, .int (nI (40 * a + i))), (6, .int (nI (40 * b + j))), (7, .int (nI (40 * a + C a))), (8, .int (nI (40 * b + C b))), (9, .int (nI at_)), (10, .int (nI (SA at_).toNat))]) hx hb dX0_make_152 hl (by decide) rfl (fun ls hl => ?_)
                exact k154  ls (lv_sub hl [1, 2, 3, 4, 5, 6, 7, 8, 9, 0] rfl)
              · refine lv_iconst (v := nI 1) hx hb dX0_make_147 (by decide) ?_
                refine lv_goto (tgt := 152) hx hb dX0_make_148 (by decide) ?_
                refine nb_top (y := nI (SB at_).toNat) (by rw [hinB, decide_eq_true (show j < C b by omega), decide_eq_true (show F (40 * b + j) ≤ at_ by omega)]; rfl) ?_
                refine lv_istore (lv' := [(11, .int (nI (SB at_).toNat)), (0, .ref h0), (1, .int (nI d)), (2, .int (nI how)), (5, .int (nI (40 * a + i))), (6, .int (nI (40 * b + j))), (7, .int (nI (40 * a + C a))), (8, .int (nI (40 * b + C b))), (9, .int (nI at_)), (10, .int (nI (SA at_).toNat))]) hx hb dX0_make_152 hl (by decide) rfl (fun ls hl => ?_)
                exact k154  ls (lv_sub hl [1, 2, 3, 4, 5, 6, 7, 8, 9, 0] rfl)
          refine lv_iload hx hb dX0_make_102 (lv_at hl 3 rfl) ?_
          refine lv_iload hx hb dX0_make_104 (lv_at hl 5 rfl) ?_
          refine nb_icmp_ge (tgt := 125) hx hb dX0_make_106 (by decide) (by omega) (by omega) (fun c3 => ?_) (fun c3 => ?_)
          · refine lv_iconst (v := nI 0) hx hb dX0_make_125 (by decide) ?_
            refine nb_top (y := nI (SA at_).toNat) (by rw [hinA, decide_eq_false (show ¬ i < C a by omega), Bool.false_and]; rfl) ?_
            refine lv_istore (lv' := [(10, .int (nI (SA at_).toNat)), (0, .ref h0), (1, .int (nI d)), (2, .int (nI how)), (5, .int (nI (40 * a + i))), (6, .int (nI (40 * b + j))), (7, .int (nI (40 * a + C a))), (8, .int (nI (40 * b + C b))), (9, .int (nI at_))]) hx hb dX0_make_126 hl (by decide) rfl (fun ls hl => ?_)
            exact k128  ls (lv_sub hl [1, 2, 3, 4, 5, 6, 7, 8, 0] rfl)
          · refine lv_aload_n hx hb dX0_make_109 rfl (lv_at hl 0 rfl) ?_
            refine gX_1 S hK hP dX0_make_110 ?_
            refine lv_iload hx hb dX0_make_113 (lv_at hl 3 rfl) ?_
            refine nb_sald hx hb hK hP 2 1 rfl rfl (by omega) (by decide) dX0_make_115 ?_
            have b_8 := hF (40 * a + i)
            refine lv_iload hx hb dX0_make_116 (lv_at hl 7 rfl) ?_
            refine nb_icmp_gt (tgt := 125) hx hb dX0_make_118 (by decide) (by omega) (by omega) (fun c4 => ?_) (fun c4 => ?_)
            · refine lv_iconst (v := nI 0) hx hb dX0_make_125 (by decide) ?_
              refine nb_top (y := nI (SA at_).toNat) (by rw [hinA, decide_eq_false (show ¬ F (40 * a + i) ≤ at_ by omega), Bool.and_false]; rfl) ?_
              refine lv_istore (lv' := [(10, .int (nI (SA at_).toNat)), (0, .ref h0), (1, .int (nI d)), (2, .int (nI how)), (5, .int (nI (40 * a + i))), (6, .int (nI (40 * b + j))), (7, .int (nI (40 * a + C a))), (8, .int (nI (40 * b + C b))), (9, .int (nI at_))]) hx hb dX0_make_126 hl (by decide) rfl (fun ls hl => ?_)
              exact k128  ls (lv_sub hl [1, 2, 3, 4, 5, 6, 7, 8, 0] rfl)
            · refine lv_iconst (v := nI 1) hx hb dX0_make_121 (by decide) ?_
              refine lv_goto (tgt := 126) hx hb dX0_make_122 (by decide) ?_
              refine nb_top (y := nI (SA at_).toNat) (by rw [hinA, decide_eq_true (show i < C a by omega), decide_eq_true (show F (40 * a + i) ≤ at_ by omega)]; rfl) ?_
              refine lv_istore (lv' := [(10, .int (nI (SA at_).toNat)), (0, .ref h0), (1, .int (nI d)), (2, .int (nI how)), (5, .int (nI (40 * a + i))), (6, .int (nI (40 * b + j))), (7, .int (nI (40 * a + C a))), (8, .int (nI (40 * b + C b))), (9, .int (nI at_))]) hx hb dX0_make_126 hl (by decide) rfl (fun ls hl => ?_)
              exact k128  ls (lv_sub hl [1, 2, 3, 4, 5, 6, 7, 8, 0] rfl)
        have lpB : ∀ (n : Nat) (j i : Nat), i ≤ C a → j ≤ C b → (∀ t, t < i → L (40 * a + t) < at_) → (∀ t, t < j → L (40 * b + t) < at_) → (i < C a → at_ ≤ L (40 * a + i)) → C b - j < n → ∀ ls : Array Slot, lv_has ls 15 [(0, .ref h0), (1, .int (nI d)), (2, .int (nI how)), (5, .int (nI (40 * a + i))), (6, .int (nI (40 * b + j))), (7, .int (nI (40 * a + C a))), (8, .int (nI (40 * b + C b))), (9, .int (nI at_))] → W p l e rX0_make s m args below meth c H locs 0 0 Q (F0 m 77 ls []) := by
          intro n
          induction n with
          | zero => intro j i hi hj hi1 hj1 hi2 hm; exact absurd hm (Nat.not_lt_zero _)
          | succ n ih =>
            intro j i hi hj hi1 hj1 hi2 hm ls hl
            refine lv_iload hx hb dX0_make_77 (lv_at hl 4 rfl) ?_
            refine lv_iload hx hb dX0_make_79 (lv_at hl 6 rfl) ?_
            refine nb_icmp_ge (tgt := 102) hx hb dX0_make_81 (by decide) (by omega) (by omega) (fun c3 => ?_) (fun c3 => ?_)
            · exact k102 i j hi hj hi1 hj1 hi2 (fun q => by omega) ls (lv_sub hl [0, 1, 2, 3, 4, 5, 6, 7] rfl)
            · refine lv_aload_n hx hb dX0_make_84 rfl (lv_at hl 0 rfl) ?_
              refine gX_2 S hK hP dX0_make_85 ?_
              refine lv_iload hx hb dX0_make_88 (lv_at hl 4 rfl) ?_
              refine nb_sald hx hb hK hP 3 1 rfl rfl (by omega) (by decide) dX0_make_90 ?_
              have b_9 := hL (40 * b + j)
              refine lv_iload hx hb dX0_make_91 (lv_at hl 7 rfl) ?_
              refine nb_icmp_ge (tgt := 102) hx hb dX0_make_93 (by decide) (by omega) (by omega) (fun c4 => ?_) (fun c4 => ?_)
              · exact k102 i j hi hj hi1 hj1 hi2 (fun q => by omega) ls (lv_sub hl [0, 1, 2, 3, 4, 5, 6, 7] rfl)
              · refine lv_iinc (v := nI ((40 * b + j) + 1)) (lv' := [(6, .int (nI ((40 * b + j) + 1))), (0, .ref h0), (1, .int (nI d)), (2, .int (nI how)), (5, .int (nI (40 * a + i))), (7, .int (nI (40 * a + C a))), (8, .int (nI (40 * b + C b))), (9, .int (nI at_))]) hx hb dX0_make_96 hl (k := 4) rfl (nI_1 _) (by decide) rfl (fun ls hl => ?_)
                refine lv_goto (tgt := 77) hx hb dX0_make_99 (by decide) ?_
                exact ih (j + 1) i hi (by omega) hi1 (lt_s hj1 c4) hi2 (by omega) ls (lv_sub hl [1, 2, 3, 4, 0, 5, 6, 7] rfl)
        have lpA : ∀ (n : Nat) (i j : Nat), i ≤ C a → j ≤ C b → (∀ t, t < i → L (40 * a + t) < at_) → (∀ t, t < j → L (40 * b + t) < at_) → C a - i < n → ∀ ls : Array Slot, lv_has ls 15 [(0, .ref h0), (1, .int (nI d)), (2, .int (nI how)), (5, .int (nI (40 * a + i))), (6, .int (nI (40 * b + j))), (7, .int (nI (40 * a + C a))), (8, .int (nI (40 * b + C b))), (9, .int (nI at_))] → W p l e rX0_make s m args below meth c H locs 0 0 Q (F0 m 52 ls []) := by
          intro n
          induction n with
          | zero => intro i j hi hj hi1 hj1 hm; exact absurd hm (Nat.not_lt_zero _)
          | succ n ih =>
            intro i j hi hj hi1 hj1 hm ls hl
            refine lv_iload hx hb dX0_make_52 (lv_at hl 3 rfl) ?_
            refine lv_iload hx hb dX0_make_54 (lv_at hl 5 rfl) ?_
            refine nb_icmp_ge (tgt := 77) hx hb dX0_make_56 (by decide) (by omega) (by omega) (fun c3 => ?_) (fun c3 => ?_)
            · exact lpB (C b + 1) j i hi hj hi1 hj1 (fun q => by omega) (by omega) ls (lv_sub hl [0, 1, 2, 3, 4, 5, 6, 7] rfl)
            · refine lv_aload_n hx hb dX0_make_59 rfl (lv_at hl 0 rfl) ?_
              refine gX_2 S hK hP dX0_make_60 ?_
              refine lv_iload hx hb dX0_make_63 (lv_at hl 3 rfl) ?_
              refine nb_sald hx hb hK hP 3 1 rfl rfl (by omega) (by decide) dX0_make_65 ?_
              have b_10 := hL (40 * a + i)
              refine lv_iload hx hb dX0_make_66 (lv_at hl 7 rfl) ?_
              refine nb_icmp_ge (tgt := 77) hx hb dX0_make_68 (by decide) (by omega) (by omega) (fun c4 => ?_) (fun c4 => ?_)
              · exact lpB (C b + 1) j i hi hj hi1 hj1 (fun q => by omega) (by omega) ls (lv_sub hl [0, 1, 2, 3, 4, 5, 6, 7] rfl)
              · refine lv_iinc (v := nI ((40 * a + i) + 1)) (lv' := [(5, .int (nI ((40 * a + i) + 1))), (0, .ref h0), (1, .int (nI d)), (2, .int (nI how)), (6, .int (nI (40 * b + j))), (7, .int (nI (40 * a + C a))), (8, .int (nI (40 * b + C b))), (9, .int (nI at_))]) hx hb dX0_make_71 hl (k := 3) rfl (nI_1 _) (by decide) rfl (fun ls hl => ?_)
                refine lv_goto (tgt := 52) hx hb dX0_make_74 (by decide) ?_
                exact ih (i + 1) j (by omega) hj (lt_s hi1 c4) hj1 (by omega) ls (lv_sub hl [1, 2, 3, 0, 4, 5, 6, 7] rfl)
        exact lpA (C a + 1) i j hi hj hi1 hj1 (by omega) ls (lv_sub hl [0, 1, 2, 3, 4, 5, 6, 7] rfl)
  refine lv_bipush (v := nI 40) hx hb dX0_make_0 (by decide) ?_
  refine lv_iload_n hx hb dX0_make_2 rfl (lv_at hl 3 rfl) ?_
  refine nb_imul hx hb dX0_make_3 ?_
  refine lv_istore (lv' := [(5, .int (nI (40 * a))), (0, .ref h0), (1, .int (nI d)), (2, .int (nI how)), (3, .int (nI a)), (4, .int (nI b))]) hx hb dX0_make_4 hl (by decide) rfl (fun ls hl => ?_)
  refine lv_bipush (v := nI 40) hx hb dX0_make_6 (by decide) ?_
  refine lv_iload hx hb dX0_make_8 (lv_at hl 5 rfl) ?_
  refine nb_imul hx hb dX0_make_10 ?_
  refine lv_istore (lv' := [(6, .int (nI (40 * b))), (5, .int (nI (40 * a))), (0, .ref h0), (1, .int (nI d)), (2, .int (nI how)), (3, .int (nI a)), (4, .int (nI b))]) hx hb dX0_make_11 hl (by decide) rfl (fun ls hl => ?_)
  refine lv_iload hx hb dX0_make_13 (lv_at hl 1 rfl) ?_
  refine lv_aload_n hx hb dX0_make_15 rfl (lv_at hl 2 rfl) ?_
  refine gX_0 S hK hP dX0_make_16 ?_
  refine lv_iload_n hx hb dX0_make_19 rfl (lv_at hl 5 rfl) ?_
  refine nb_bald hx hb hK hP 1 0 rfl rfl (by omega) (by decide) dX0_make_20 ?_
  have b_11 := hC a
  refine nb_iadd hx hb dX0_make_21 ?_
  refine lv_istore (lv' := [(7, .int (nI ((40 * a) + (C a)))), (6, .int (nI (40 * b))), (5, .int (nI (40 * a))), (0, .ref h0), (1, .int (nI d)), (2, .int (nI how)), (3, .int (nI a)), (4, .int (nI b))]) hx hb dX0_make_22 hl (by decide) rfl (fun ls hl => ?_)
  refine lv_iload hx hb dX0_make_24 (lv_at hl 1 rfl) ?_
  refine lv_aload_n hx hb dX0_make_26 rfl (lv_at hl 3 rfl) ?_
  refine gX_0 S hK hP dX0_make_27 ?_
  refine lv_iload hx hb dX0_make_30 (lv_at hl 7 rfl) ?_
  refine nb_bald hx hb hK hP 1 0 rfl rfl (by omega) (by decide) dX0_make_32 ?_
  have b_12 := hC b
  refine nb_iadd hx hb dX0_make_33 ?_
  refine lv_istore (lv' := [(8, .int (nI ((40 * b) + (C b)))), (7, .int (nI ((40 * a) + (C a)))), (6, .int (nI (40 * b))), (5, .int (nI (40 * a))), (0, .ref h0), (1, .int (nI d)), (2, .int (nI how)), (3, .int (nI a)), (4, .int (nI b))]) hx hb dX0_make_34 hl (by decide) rfl (fun ls hl => ?_)
  refine lv_iconst (v := nI 0) hx hb dX0_make_36 (by decide) ?_
  refine lv_istore (lv' := [(9, .int (nI 0)), (8, .int (nI ((40 * b) + (C b)))), (7, .int (nI ((40 * a) + (C a)))), (6, .int (nI (40 * b))), (5, .int (nI (40 * a))), (0, .ref h0), (1, .int (nI d)), (2, .int (nI how)), (3, .int (nI a)), (4, .int (nI b))]) hx hb dX0_make_37 hl (by decide) rfl (fun ls hl => ?_)
  refine lv_aload_n hx hb dX0_make_39 rfl (lv_at hl 5 rfl) ?_
  refine lv_iconst (v := nI 0) hx hb dX0_make_40 (by decide) ?_
  refine pX_3 S hK hP hD hS dX0_make_41 (fun H locs hP hD hS => ?_)
  exact outer 257 0 0 0 0 MF ML (by omega) (Nat.zero_le _) (Nat.zero_le _) (fun t q => absurd q (Nat.not_lt_zero _)) (fun t q => absurd q (Nat.not_lt_zero _)) ⟨fun j q => absurd q (Nat.not_lt_zero _), fun j q => absurd q (Nat.not_lt_zero _), fun n => ⟨fun q => by simp [cu_to] at q, fun ⟨j, q, _⟩ => absurd q (Nat.not_lt_zero _)⟩⟩ hMF hML (by omega) H locs hP hD hS ls (lv_sub hl [5, 6, 7, 4, 3, 2, 1, 0] rfl)
end
section
set_option maxHeartbeats 4000000 in
set_option maxRecDepth 100000 in
/-- combine -/
theorem mX0_combine (l : Launch) (D : va_G) (h0 a1 a2 a3 a4 a5 : Nat) (dB dS : ClassId) (C F L MF ML : Nat → Nat) (mc cx cy : Nat) (sz : Nat) (S0 : Nat → Nat → Bool) (hC : ∀ q, C q < 128) (hF : ∀ q, F q < 256) (hL : ∀ q, L q < 256) (hR : cu_RX C F L S0) (hMF : ∀ q, MF q < 256) (hML : ∀ q, ML q < 256) (dv hv av bv : Int32) : MetI l yX0_combine cX0_combine 5 rX0_combine [.ref h0, .int dv, .int hv, .int av, .int bv] D (tX dB dS) (wX h0 a1 a2 a3 a4 a5 dB dS C F L MF ML mc cx cy) (uX h0 a1 a2 a3 a4 a5 dB dS) sz (fun r u => r = (cu_comb S0 dv hv av bv).1 ∧ cu_XOK u (cu_comb S0 dv hv av bv).2) := by
  refine metI_of (by decide) (Nat.le_of_ble_eq_true rfl) ?_
  intro p e s m args below meth c A H0 Q S hK hA hP hD hS kret ls hl
  have S : CallFix p m c cX0_combine 5 s args lw_all RX0 := S
  have hx := S.1
  have hb := S.2.1
  have hts := S.2.2.2.2
  have hl : lv_has ls 5 [(0, .ref h0), (1, .int dv), (2, .int hv), (3, .int av), (4, .int bv)] := hl
  have k34 : cu_comb S0 dv hv av bv = (-1, S0) → ∀ ls : Array Slot, W p l e rX0_combine s m args below meth c H0 [] 0 0 Q (F0 m 34 ls []) := by
    intro hq ls
    refine lv_iconst (v := (-1)) hx hb dX0_combine_34 (by decide) ?_
    exact kret 35 ls (-1) (C, F, L, MF, ML, mc, cx, cy) H0 [] dX0_combine_35 ⟨by rw [hq], hC, hF, hL, hMF, hML, by rw [hq]; exact hR⟩ hP hD hS
  refine lv_aload_n hx hb dX0_combine_0 rfl (lv_at hl 0 rfl) ?_
  refine lv_iload_n hx hb dX0_combine_1 rfl (lv_at hl 1 rfl) ?_
  refine cu_rcall (As := [.int dv]) (rest := []) S (mX0_isSet l h0 dv) (cwX0_isSet hts ⟨Nat.le_of_ble_eq_true rfl, Nat.le_of_ble_eq_true rfl⟩) (cu_preP (va_recv hK hP (ci := 0) (q0 := 0) rfl rfl)) rfl hl.1 rfl (Nat.le_of_ble_eq_true rfl) dX0_combine_2 (Nat.zero_le _) (Nat.zero_le _) ?_
  refine nb_if_eqB (tgt := 34) hx hb dX0_combine_5 (by decide) (fun c1 => ?_) (fun c1 => ?_)
  · exact k34 (by rw [cu_comb, if_neg (fun q => by rw [c1] at q; exact absurd q.1 (by decide))]) ls
  · refine lv_aload_n hx hb dX0_combine_8 rfl (lv_at hl 0 rfl) ?_
    refine lv_iload_n hx hb dX0_combine_9 rfl (lv_at hl 3 rfl) ?_
    refine cu_rcall (As := [.int av]) (rest := []) S (mX0_isSet l h0 av) (cwX0_isSet hts ⟨Nat.le_of_ble_eq_true rfl, Nat.le_of_ble_eq_true rfl⟩) (cu_preP (va_recv hK hP (ci := 0) (q0 := 0) rfl rfl)) rfl hl.1 rfl (Nat.le_of_ble_eq_true rfl) dX0_combine_10 (Nat.zero_le _) (Nat.zero_le _) ?_
    refine nb_if_eqB (tgt := 34) hx hb dX0_combine_13 (by decide) (fun c2 => ?_) (fun c2 => ?_)
    · exact k34 (by rw [cu_comb, if_neg (fun q => by rw [c2] at q; exact absurd q.2.1 (by decide))]) ls
    · refine lv_aload_n hx hb dX0_combine_16 rfl (lv_at hl 0 rfl) ?_
      refine lv_iload hx hb dX0_combine_17 (lv_at hl 4 rfl) ?_
      refine cu_rcall (As := [.int bv]) (rest := []) S (mX0_isSet l h0 bv) (cwX0_isSet hts ⟨Nat.le_of_ble_eq_true rfl, Nat.le_of_ble_eq_true rfl⟩) (cu_preP (va_recv hK hP (ci := 0) (q0 := 0) rfl rfl)) rfl hl.1 rfl (Nat.le_of_ble_eq_true rfl) dX0_combine_19 (Nat.zero_le _) (Nat.zero_le _) ?_
      refine nb_if_eqB (tgt := 34) hx hb dX0_combine_22 (by decide) (fun c3 => ?_) (fun c3 => ?_)
      · exact k34 (by rw [cu_comb, if_neg (fun q => by rw [c3] at q; exact absurd q.2.2.1 (by decide))]) ls
      · refine lv_iload_n hx hb dX0_combine_25 rfl (lv_at hl 2 rfl) ?_
        refine lv_if_lt (tgt := 34) hx hb dX0_combine_26 (by decide) (fun c4 => ?_) (fun c4 => ?_)
        · exact k34 (by rw [cu_comb, if_neg (fun q => q.2.2.2.1 c4)]) ls
        · refine lv_iload_n hx hb dX0_combine_29 rfl (lv_at hl 2 rfl) ?_
          refine lv_iconst (v := nI 2) hx hb dX0_combine_30 (by decide) ?_
          refine lv_icmp_le (tgt := 36) hx hb dX0_combine_31 (by decide) (fun c5 => ?_) (fun c5 => ?_)
          · obtain ⟨d, hd, rfl⟩ := cu_ok_of c1
            obtain ⟨a, ha, rfl⟩ := cu_ok_of c2
            obtain ⟨b, hb4, rfl⟩ := cu_ok_of c3
            obtain ⟨how, hhow, rfl⟩ := cu_of_to (n := 2) (by omega) c4 (cu_le_nlt c5)
            refine lv_aload_n hx hb dX0_combine_36 rfl (lv_at hl 0 rfl) ?_
            refine lv_iload_n hx hb dX0_combine_37 rfl (lv_at hl 1 rfl) ?_
            refine lv_iload_n hx hb dX0_combine_38 rfl (lv_at hl 2 rfl) ?_
            refine lv_iload_n hx hb dX0_combine_39 rfl (lv_at hl 3 rfl) ?_
            refine lv_iload hx hb dX0_combine_40 (lv_at hl 4 rfl) ?_
            refine cu_icall (wr := []) (As := [.int (nI d), .int (nI how), .int (nI a), .int (nI b)]) (rest := []) S (mX0_make l D h0 a1 a2 a3 a4 a5 dB dS C F L MF ML mc cx cy H0.size S0 hC hF hL hR hMF hML d how a b (S0 a) (S0 b) hd hhow (by omega) (by omega) (hR a ha).1 (hR b hb4).1 (hR a ha).2 (hR b hb4).2) (cwX0_make hts ⟨Nat.le_of_ble_eq_true rfl, Nat.le_of_ble_eq_true rfl⟩) (va_recv hK hP (ci := 0) (q0 := 0) rfl rfl) hA hK hP (fun k q h => by cases h) (by rw [List.append_nil]; exact hD) hS rfl hl.1 rfl (Nat.le_of_ble_eq_true rfl) dX0_combine_42 (Nat.zero_le _) (Nat.zero_le _) (fun r u_ H locs hq hP _ hD hS => ?_)
            obtain ⟨C2, F2, L2, MF2, ML2, mc2, cx2, cy2⟩ := u_
            rw [List.append_nil] at hD
            have hP : va_P D vwCl (wX h0 a1 a2 a3 a4 a5 dB dS C2 F2 L2 MF2 ML2 mc2 cx2 cy2) H := hP
            have hD : va_D A (wX h0 a1 a2 a3 a4 a5 dB dS C2 F2 L2 MF2 ML2 mc2 cx2 cy2) := hD
            exact kret 45 ls r (C2, F2, L2, MF2, ML2, mc2, cx2, cy2) H locs dX0_combine_45 (by rw [cu_comb_ok hd hhow ha hb4]; exact hq) hP hD hS
          · exact k34 (by rw [cu_comb, if_neg (fun q => q.2.2.2.2 (fa_of_nle c5))]) ls
set_option maxHeartbeats 4000000 in
set_option maxRecDepth 100000 in
/-- change -/
theorem mX0_change (l : Launch) (D : va_G) (h0 a1 a2 a3 a4 a5 : Nat) (dB dS : ClassId) (C F L MF ML : Nat → Nat) (mc cx cy : Nat) (sz : Nat) (S0 : Nat → Nat → Bool) (hC : ∀ q, C q < 128) (hF : ∀ q, F q < 256) (hL : ∀ q, L q < 256) (hR : cu_RX C F L S0) (hMF : ∀ q, MF q < 256) (hML : ∀ q, ML q < 256) (sv qv : Int32) (bb : Bool) : MetI l yX0_change cX0_change 10 rX0_change [.ref h0, .int sv, .int qv, .int (nI bb.toNat)] D (tX dB dS) (wX h0 a1 a2 a3 a4 a5 dB dS C F L MF ML mc cx cy) (uX h0 a1 a2 a3 a4 a5 dB dS) sz (fun r u => r = (cu_chg S0 sv qv bb).1 ∧ cu_XOK u (cu_chg S0 sv qv bb).2) := by
  refine metI_of (by decide) (Nat.le_of_ble_eq_true rfl) ?_
  intro p e s m args below meth c A H0 Q S hK hA hP hD hS kret ls hl
  have S : CallFix p m c cX0_change 10 s args lw_all RX0 := S
  have hx := S.1
  have hb := S.2.1
  have hts := S.2.2.2.2
  have hl : lv_has ls 10 [(0, .ref h0), (1, .int sv), (2, .int qv), (3, .int (nI bb.toNat))] := hl
  have k12 : cu_chg S0 sv qv bb = (-1, S0) → ∀ ls : Array Slot, W p l e rX0_change s m args below meth c H0 [] 0 0 Q (F0 m 12 ls []) := by
    intro hq ls
    refine lv_iconst (v := (-1)) hx hb dX0_change_12 (by decide) ?_
    exact kret 13 ls (-1) (C, F, L, MF, ML, mc, cx, cy) H0 [] dX0_change_13 ⟨by rw [hq], hC, hF, hL, hMF, hML, by rw [hq]; exact hR⟩ hP hD hS
  have k58 : cu_chg S0 sv qv bb = (-1, S0) → ∀ ls : Array Slot, W p l e rX0_change s m args below meth c H0 [] 0 0 Q (F0 m 58 ls []) := by
    intro hq ls
    refine lv_iconst (v := (-1)) hx hb dX0_change_58 (by decide) ?_
    exact kret 59 ls (-1) (C, F, L, MF, ML, mc, cx, cy) H0 [] dX0_change_59 ⟨by rw [hq], hC, hF, hL, hMF, hML, by rw [hq]; exact hR⟩ hP hD hS
  refine lv_aload_n hx hb dX0_change_0 rfl (lv_at hl 0 rfl) ?_
  refine lv_iload_n hx hb dX0_change_1 rfl (lv_at hl 1 rfl) ?_
  refine cu_rcall (As := [.int sv]) (rest := []) S (mX0_isSet l h0 sv) (cwX0_isSet hts ⟨Nat.le_of_ble_eq_true rfl, Nat.le_of_ble_eq_true rfl⟩) (cu_preP (va_recv hK hP (ci := 0) (q0 := 0) rfl rfl)) rfl hl.1 rfl (Nat.le_of_ble_eq_true rfl) dX0_change_2 (Nat.zero_le _) (Nat.zero_le _) ?_
  refine nb_if_eqB (tgt := 12) hx hb dX0_change_5 (by decide) (fun c1 => ?_) (fun c1 => ?_)
  · exact k12 (cu_chg_no (fun g => by rw [c1] at g; exact absurd g.1 (by decide))) ls
  · refine lv_iload_n hx hb dX0_change_8 rfl (lv_at hl 2 rfl) ?_
    refine lv_if_ge (tgt := 14) hx hb dX0_change_9 (by decide) (fun c2 => ?_) (fun c2 => ?_)
    · obtain ⟨a, ha, rfl⟩ := cu_ok_of c1
      obtain ⟨hk, hI⟩ := hR a ha
      obtain ⟨qq, hq31, rfl⟩ := nI_of (cu_le_nlt c2)
      refine lv_iload_n hx hb dX0_change_14 rfl (lv_at hl 2 rfl) ?_
      refine lv_bipush (v := nI 10) hx hb dX0_change_15 (by decide) ?_
      refine nb_ishr hx hb dX0_change_17 (by omega) (by omega) ?_
      refine nb_top (y := nI (qq / 1024)) rfl ?_
      refine lv_istore (lv' := [(4, .int (nI (qq / 1024))), (0, .ref h0), (1, .int (nI a)), (2, .int (nI qq)), (3, .int (nI bb.toNat))]) hx hb dX0_change_18 hl (by decide) rfl (fun ls hl => ?_)
      refine lv_iload_n hx hb dX0_change_20 rfl (lv_at hl 3 rfl) ?_
      refine lv_iconst (v := nI 5) hx hb dX0_change_21 (by decide) ?_
      refine nb_ishr hx hb dX0_change_22 (by omega) (by omega) ?_
      refine lv_bipush (v := nI 31) hx hb dX0_change_23 (by decide) ?_
      refine nb_iand hx hb dX0_change_25 ?_
      refine nb_top (y := nI (qq / 32 % 32)) (by rw [cu_and31]) ?_
      refine lv_istore (lv' := [(5, .int (nI (qq / 32 % 32))), (4, .int (nI (qq / 1024))), (0, .ref h0), (1, .int (nI a)), (2, .int (nI qq)), (3, .int (nI bb.toNat))]) hx hb dX0_change_26 hl (by decide) rfl (fun ls hl => ?_)
      refine lv_iload_n hx hb dX0_change_28 rfl (lv_at hl 4 rfl) ?_
      refine lv_bipush (v := nI 31) hx hb dX0_change_29 (by decide) ?_
      refine nb_iand hx hb dX0_change_31 ?_
      refine nb_top (y := nI (qq % 32)) (by rw [cu_and31]) ?_
      refine lv_istore (lv' := [(6, .int (nI (qq % 32))), (5, .int (nI (qq / 32 % 32))), (4, .int (nI (qq / 1024))), (0, .ref h0), (1, .int (nI a)), (2, .int (nI qq)), (3, .int (nI bb.toNat))]) hx hb dX0_change_32 hl (by decide) rfl (fun ls hl => ?_)
      refine lv_iload hx hb dX0_change_34 (lv_at hl 2 rfl) ?_
      refine lv_iconst (v := nI 4) hx hb dX0_change_36 (by decide) ?_
      refine nb_icmp_gt (tgt := 58) hx hb dX0_change_37 (by decide) (by omega) (by omega) (fun c3 => ?_) (fun c3 => ?_)
      · exact k58 (cu_chg_nq hq31 (fun g => by have := g.1; omega)) ls
      · have hs := cu_sd_sh c3
        refine lv_iload hx hb dX0_change_40 (lv_at hl 1 rfl) ?_
        refine lv_iconst (v := nI 1) hx hb dX0_change_42 (by decide) ?_
        refine lv_iload hx hb dX0_change_43 (lv_at hl 2 rfl) ?_
        refine nb_ishl hx hb dX0_change_45 (by omega) (by omega) ?_
        refine nb_icmp_ge (tgt := 58) hx hb dX0_change_46 (by decide) (by omega) (by omega) (fun c4 => ?_) (fun c4 => ?_)
        · exact k58 (cu_chg_nq hq31 (fun g => by have := g.2.1; omega)) ls
        · refine lv_iload hx hb dX0_change_49 (lv_at hl 0 rfl) ?_
          refine lv_iconst (v := nI 1) hx hb dX0_change_51 (by decide) ?_
          refine lv_iload hx hb dX0_change_52 (lv_at hl 2 rfl) ?_
          refine nb_ishl hx hb dX0_change_54 (by omega) (by omega) ?_
          refine nb_icmp_lt (tgt := 60) hx hb dX0_change_55 (by decide) (by omega) (by omega) (fun c5 => ?_) (fun c5 => ?_)
          · have hu : qq / 32 % 32 < 2 ^ (qq / 1024) := by omega
            have hw : qq % 32 < 2 ^ (qq / 1024) := by omega
            have hsq : cu_sqok qq := ⟨c3, hu, hw⟩
            have hx1 := cu_sd_lt c3 hu
            have hy1 := cu_sd_lt c3 hw
            have hz := cu_sz_1 c3
            have hbl := cu_blk_lt c3 hu hw
            have hp4 : 2 ^ (4 - qq / 1024) ≤ 16 := (by have := Nat.pow_le_pow_right (n := 2) (by omega) (show 4 - qq / 1024 ≤ 4 by omega); omega)
            refine lv_iconst (v := nI 1) hx hb dX0_change_60 (by decide) ?_
            refine lv_iconst (v := nI 4) hx hb dX0_change_61 (by decide) ?_
            refine lv_iload hx hb dX0_change_62 (lv_at hl 2 rfl) ?_
            refine nb_isub hx hb dX0_change_64 (by omega) ?_
            refine nb_ishl hx hb dX0_change_65 (by omega) (by omega) ?_
            refine nb_top (y := nI (cu_sd (qq / 1024))) (by rw [hs.1]) ?_
            refine lv_istore (lv' := [(7, .int (nI (cu_sd (qq / 1024)))), (6, .int (nI (qq % 32))), (5, .int (nI (qq / 32 % 32))), (4, .int (nI (qq / 1024))), (0, .ref h0), (1, .int (nI a)), (2, .int (nI qq)), (3, .int (nI bb.toNat))]) hx hb dX0_change_66 hl (by decide) rfl (fun ls hl => ?_)
            refine lv_iload hx hb dX0_change_68 (lv_at hl 0 rfl) ?_
            refine lv_iload hx hb dX0_change_70 (lv_at hl 0 rfl) ?_
            refine nb_imul hx hb dX0_change_72 ?_
            refine nb_top (y := nI (cu_sz (qq / 1024))) (by rw [hs.2.1]) ?_
            refine lv_istore (lv' := [(8, .int (nI (cu_sz (qq / 1024)))), (7, .int (nI (cu_sd (qq / 1024)))), (6, .int (nI (qq % 32))), (5, .int (nI (qq / 32 % 32))), (4, .int (nI (qq / 1024))), (0, .ref h0), (1, .int (nI a)), (2, .int (nI qq)), (3, .int (nI bb.toNat))]) hx hb dX0_change_73 hl (by decide) rfl (fun ls hl => ?_)
            refine lv_aload_n hx hb dX0_change_75 rfl (lv_at hl 5 rfl) ?_
            refine lv_iload hx hb dX0_change_76 (lv_at hl 3 rfl) ?_
            refine lv_iload hx hb dX0_change_78 (lv_at hl 1 rfl) ?_
            refine nb_imul hx hb dX0_change_80 ?_
            refine lv_iload hx hb dX0_change_81 (lv_at hl 2 rfl) ?_
            refine lv_iload hx hb dX0_change_83 (lv_at hl 1 rfl) ?_
            refine nb_imul hx hb dX0_change_85 ?_
            refine cu_rcall (As := [.int (nI ((qq / 32 % 32) * (cu_sd (qq / 1024)))), .int (nI ((qq % 32) * (cu_sd (qq / 1024))))]) (rest := []) S (mX0_numberOf l h0 (qq / 32 % 32 * cu_sd (qq / 1024)) (qq % 32 * cu_sd (qq / 1024)) hx1 hy1) (cwX0_numberOf hts ⟨Nat.le_of_ble_eq_true rfl, Nat.le_of_ble_eq_true rfl⟩) (cu_preP (va_recv hK hP (ci := 0) (q0 := 0) rfl rfl)) rfl hl.1 rfl (Nat.le_of_ble_eq_true rfl) dX0_change_86 (Nat.zero_le _) (Nat.zero_le _) ?_
            refine lv_iload hx hb dX0_change_89 (lv_at hl 0 rfl) ?_
            refine lv_ineg hx hb dX0_change_91 ?_
            refine lv_iand hx hb dX0_change_92 ?_
            refine nb_top (y := nI (cu_blk (qq / 1024) (qq / 32 % 32) (qq % 32) * cu_sz (qq / 1024))) (cu_blk_num c3 hu hw) ?_
            refine lv_istore (lv' := [(9, .int (nI (cu_blk (qq / 1024) (qq / 32 % 32) (qq % 32) * cu_sz (qq / 1024)))), (8, .int (nI (cu_sz (qq / 1024)))), (7, .int (nI (cu_sd (qq / 1024)))), (6, .int (nI (qq % 32))), (5, .int (nI (qq / 32 % 32))), (4, .int (nI (qq / 1024))), (0, .ref h0), (1, .int (nI a)), (2, .int (nI qq)), (3, .int (nI bb.toNat))]) hx hb dX0_change_93 hl (by decide) rfl (fun ls hl => ?_)
            refine lv_aload_n hx hb dX0_change_95 rfl (lv_at hl 6 rfl) ?_
            refine gX_0 S hK hP dX0_change_96 ?_
            refine lv_iconst (v := nI 4) hx hb dX0_change_99 (by decide) ?_
            refine lv_iconst (v := nI 1) hx hb dX0_change_100 (by decide) ?_
            refine nb_bast hx hb hK hP hD hS 1 0 rfl rfl (by omega) (by decide) (by omega) dX0_change_101 (fun H locs hP hD hS => ?_)
            have hP : va_P D vwCl (wX h0 a1 a2 a3 a4 a5 dB dS (va_up C 4 1) F L MF ML mc cx cy) H := hP
            have hD : va_D A (wX h0 a1 a2 a3 a4 a5 dB dS (va_up C 4 1) F L MF ML mc cx cy) := hD
            have hC : ∀ q, (va_up C 4 1) q < 128 := cu_upl hC (by omega)
            refine lv_aload_n hx hb dX0_change_102 rfl (lv_at hl 6 rfl) ?_
            refine gX_1 S hK hP dX0_change_103 ?_
            refine lv_sipush (v := nI 160) hx hb dX0_change_106 (by decide) ?_
            refine lv_iload hx hb dX0_change_109 (lv_at hl 0 rfl) ?_
            refine nb_i2s hx hb dX0_change_111 (by omega) ?_
            refine nb_sast hx hb hK hP hD hS 2 1 rfl rfl (by omega) (by decide) (by omega) dX0_change_112 (fun H locs hP hD hS => ?_)
            have hP : va_P D vwCl (wX h0 a1 a2 a3 a4 a5 dB dS (va_up C 4 1) (va_up F 160 (cu_blk (qq / 1024) (qq / 32 % 32) (qq % 32) * cu_sz (qq / 1024))) L MF ML mc cx cy) H := hP
            have hD : va_D A (wX h0 a1 a2 a3 a4 a5 dB dS (va_up C 4 1) (va_up F 160 (cu_blk (qq / 1024) (qq / 32 % 32) (qq % 32) * cu_sz (qq / 1024))) L MF ML mc cx cy) := hD
            have hF : ∀ q, (va_up F 160 (cu_blk (qq / 1024) (qq / 32 % 32) (qq % 32) * cu_sz (qq / 1024))) q < 256 := cu_upl hF (by omega)
            refine lv_aload_n hx hb dX0_change_113 rfl (lv_at hl 6 rfl) ?_
            refine gX_2 S hK hP dX0_change_114 ?_
            refine lv_sipush (v := nI 160) hx hb dX0_change_117 (by decide) ?_
            refine lv_iload hx hb dX0_change_120 (lv_at hl 0 rfl) ?_
            refine lv_iload hx hb dX0_change_122 (lv_at hl 1 rfl) ?_
            refine nb_iadd hx hb dX0_change_124 ?_
            refine lv_iconst (v := nI 1) hx hb dX0_change_125 (by decide) ?_
            refine nb_isub hx hb dX0_change_126 (by omega) ?_
            refine nb_i2s hx hb dX0_change_127 (by omega) ?_
            refine nb_sast hx hb hK hP hD hS 3 1 rfl rfl (by omega) (by decide) (by omega) dX0_change_128 (fun H locs hP hD hS => ?_)
            have hP : va_P D vwCl (wX h0 a1 a2 a3 a4 a5 dB dS (va_up C 4 1) (va_up F 160 (cu_blk (qq / 1024) (qq / 32 % 32) (qq % 32) * cu_sz (qq / 1024))) (va_up L 160 (((cu_blk (qq / 1024) (qq / 32 % 32) (qq % 32) * cu_sz (qq / 1024)) + (cu_sz (qq / 1024))) - 1)) MF ML mc cx cy) H := hP
            have hD : va_D A (wX h0 a1 a2 a3 a4 a5 dB dS (va_up C 4 1) (va_up F 160 (cu_blk (qq / 1024) (qq / 32 % 32) (qq % 32) * cu_sz (qq / 1024))) (va_up L 160 (((cu_blk (qq / 1024) (qq / 32 % 32) (qq % 32) * cu_sz (qq / 1024)) + (cu_sz (qq / 1024))) - 1)) MF ML mc cx cy) := hD
            have hL : ∀ q, (va_up L 160 (((cu_blk (qq / 1024) (qq / 32 % 32) (qq % 32) * cu_sz (qq / 1024)) + (cu_sz (qq / 1024))) - 1)) q < 256 := cu_upl hL (by omega)
            refine lv_aload_n hx hb dX0_change_129 rfl (lv_at hl 6 rfl) ?_
            refine lv_iload_n hx hb dX0_change_130 rfl (lv_at hl 7 rfl) ?_
            refine lv_iload_n hx hb dX0_change_131 rfl (lv_at hl 9 rfl) ?_
            refine nb_if_eqB (tgt := 139) hx hb dX0_change_132 (by decide) (fun c6 => ?_) (fun c6 => ?_)
            · refine lv_iconst (v := nI 2) hx hb dX0_change_139 (by decide) ?_
              refine lv_iload_n hx hb dX0_change_140 rfl (lv_at hl 7 rfl) ?_
              refine lv_iconst (v := nI 4) hx hb dX0_change_141 (by decide) ?_
              subst c6
              have hR2 : cu_RX (va_up C 4 1) (va_up F 160 (cu_blk (qq / 1024) (qq / 32 % 32) (qq % 32) * cu_sz (qq / 1024))) (va_up L 160 (((cu_blk (qq / 1024) (qq / 32 % 32) (qq % 32) * cu_sz (qq / 1024)) + (cu_sz (qq / 1024))) - 1)) S0 := cu_RX_5 hR
              have hIB : cu_Iv (va_up C 4 1 4) (fun j => (va_up F 160 (cu_blk (qq / 1024) (qq / 32 % 32) (qq % 32) * cu_sz (qq / 1024))) (40 * 4 + j)) (fun j => (va_up L 160 (((cu_blk (qq / 1024) (qq / 32 % 32) (qq % 32) * cu_sz (qq / 1024)) + (cu_sz (qq / 1024))) - 1)) (40 * 4 + j)) (cu_ivl (cu_blk (qq / 1024) (qq / 32 % 32) (qq % 32) * cu_sz (qq / 1024)) (cu_sz (qq / 1024))) := by rw [va_up_self]; exact cu_ivl_Iv (va_up_self _ _ _) (va_up_self _ _ _) hz.2.2 hbl
              refine cu_icall (wr := []) (As := [.int (nI a), .int (nI 2), .int (nI a), .int (nI 4)]) (rest := []) S (mX0_make l D h0 a1 a2 a3 a4 a5 dB dS (va_up C 4 1) (va_up F 160 (cu_blk (qq / 1024) (qq / 32 % 32) (qq % 32) * cu_sz (qq / 1024))) (va_up L 160 (((cu_blk (qq / 1024) (qq / 32 % 32) (qq % 32) * cu_sz (qq / 1024)) + (cu_sz (qq / 1024))) - 1)) MF ML mc cx cy H.size S0 hC hF hL hR2 hMF hML a 2 a 4 (S0 a) (cu_ivl (cu_blk (qq / 1024) (qq / 32 % 32) (qq % 32) * cu_sz (qq / 1024)) (cu_sz (qq / 1024))) ha (by omega) (by omega) (by omega) (hR2 a ha).1 (by rw [va_up_self]; omega) (hR2 a ha).2 hIB) (cwX0_make hts ⟨Nat.le_of_ble_eq_true rfl, Nat.le_of_ble_eq_true rfl⟩) (va_recv hK hP (ci := 0) (q0 := 0) rfl rfl) hA hK hP (fun k q h => by cases h) (by rw [List.append_nil]; exact hD) hS rfl hl.1 rfl (Nat.le_of_ble_eq_true rfl) dX0_change_142 (Nat.zero_le _) (Nat.zero_le _) (fun r u_ H locs hq hP _ hD hS => ?_)
              obtain ⟨C2, F2, L2, MF2, ML2, mc2, cx2, cy2⟩ := u_
              rw [List.append_nil] at hD
              have hP : va_P D vwCl (wX h0 a1 a2 a3 a4 a5 dB dS C2 F2 L2 MF2 ML2 mc2 cx2 cy2) H := hP
              have hD : va_D A (wX h0 a1 a2 a3 a4 a5 dB dS C2 F2 L2 MF2 ML2 mc2 cx2 cy2) := hD
              have eT : cu_op 2 (S0 a) (cu_ivl (cu_blk (qq / 1024) (qq / 32 % 32) (qq % 32) * cu_sz (qq / 1024)) (cu_sz (qq / 1024))) = cu_put (S0 a) (qq / 1024) (qq / 32 % 32) (qq % 32) false := cu_op_put c3 false
              rw [eT] at hq
              exact kret 145 ls r (C2, F2, L2, MF2, ML2, mc2, cx2, cy2) H locs dX0_change_145 (by rw [cu_chg_ok ha hq31 hsq]; exact hq) hP hD hS
            · refine lv_iconst (v := nI 1) hx hb dX0_change_135 (by decide) ?_
              refine lv_goto (tgt := 140) hx hb dX0_change_136 (by decide) ?_
              refine lv_iload_n hx hb dX0_change_140 rfl (lv_at hl 7 rfl) ?_
              refine lv_iconst (v := nI 4) hx hb dX0_change_141 (by decide) ?_
              subst c6
              have hR2 : cu_RX (va_up C 4 1) (va_up F 160 (cu_blk (qq / 1024) (qq / 32 % 32) (qq % 32) * cu_sz (qq / 1024))) (va_up L 160 (((cu_blk (qq / 1024) (qq / 32 % 32) (qq % 32) * cu_sz (qq / 1024)) + (cu_sz (qq / 1024))) - 1)) S0 := cu_RX_5 hR
              have hIB : cu_Iv (va_up C 4 1 4) (fun j => (va_up F 160 (cu_blk (qq / 1024) (qq / 32 % 32) (qq % 32) * cu_sz (qq / 1024))) (40 * 4 + j)) (fun j => (va_up L 160 (((cu_blk (qq / 1024) (qq / 32 % 32) (qq % 32) * cu_sz (qq / 1024)) + (cu_sz (qq / 1024))) - 1)) (40 * 4 + j)) (cu_ivl (cu_blk (qq / 1024) (qq / 32 % 32) (qq % 32) * cu_sz (qq / 1024)) (cu_sz (qq / 1024))) := by rw [va_up_self]; exact cu_ivl_Iv (va_up_self _ _ _) (va_up_self _ _ _) hz.2.2 hbl
              refine cu_icall (wr := []) (As := [.int (nI a), .int (nI 1), .int (nI a), .int (nI 4)]) (rest := []) S (mX0_make l D h0 a1 a2 a3 a4 a5 dB dS (va_up C 4 1) (va_up F 160 (cu_blk (qq / 1024) (qq / 32 % 32) (qq % 32) * cu_sz (qq / 1024))) (va_up L 160 (((cu_blk (qq / 1024) (qq / 32 % 32) (qq % 32) * cu_sz (qq / 1024)) + (cu_sz (qq / 1024))) - 1)) MF ML mc cx cy H.size S0 hC hF hL hR2 hMF hML a 1 a 4 (S0 a) (cu_ivl (cu_blk (qq / 1024) (qq / 32 % 32) (qq % 32) * cu_sz (qq / 1024)) (cu_sz (qq / 1024))) ha (by omega) (by omega) (by omega) (hR2 a ha).1 (by rw [va_up_self]; omega) (hR2 a ha).2 hIB) (cwX0_make hts ⟨Nat.le_of_ble_eq_true rfl, Nat.le_of_ble_eq_true rfl⟩) (va_recv hK hP (ci := 0) (q0 := 0) rfl rfl) hA hK hP (fun k q h => by cases h) (by rw [List.append_nil]; exact hD) hS rfl hl.1 rfl (Nat.le_of_ble_eq_true rfl) dX0_change_142 (Nat.zero_le _) (Nat.zero_le _) (fun r u_ H locs hq hP _ hD hS => ?_)
              obtain ⟨C2, F2, L2, MF2, ML2, mc2, cx2, cy2⟩ := u_
              rw [List.append_nil] at hD
              have hP : va_P D vwCl (wX h0 a1 a2 a3 a4 a5 dB dS C2 F2 L2 MF2 ML2 mc2 cx2 cy2) H := hP
              have hD : va_D A (wX h0 a1 a2 a3 a4 a5 dB dS C2 F2 L2 MF2 ML2 mc2 cx2 cy2) := hD
              have eT : cu_op 1 (S0 a) (cu_ivl (cu_blk (qq / 1024) (qq / 32 % 32) (qq % 32) * cu_sz (qq / 1024)) (cu_sz (qq / 1024))) = cu_put (S0 a) (qq / 1024) (qq / 32 % 32) (qq % 32) true := cu_op_put c3 true
              rw [eT] at hq
              exact kret 145 ls r (C2, F2, L2, MF2, ML2, mc2, cx2, cy2) H locs dX0_change_145 (by rw [cu_chg_ok ha hq31 hsq]; exact hq) hP hD hS
          · exact k58 (cu_chg_nq hq31 (fun g => by have := g.2.2; omega)) ls
    · exact k12 (cu_chg_no (fun g => g.2.1 (fa_of_nle c2))) ls
end
section
set_option maxHeartbeats 4000000 in
set_option maxRecDepth 100000 in
/-- runs -/
theorem mX1_runs (l : Launch) (D : va_G) (k0 b1 b2 b3 b4 : Nat) (dN dZ : ClassId) (Nm Pl : Nat → Nat) (Mk Th : Nat → Bool) (T : Nat → Bool) (hPl : ∀ q, Pl q < 256) (hPR : ∀ n, n < 256 → Pl n = cu_hp n) (hT : ∀ c, c < 256 → Th c = T (cu_hn c)) : MetR l yX1_runs cX1_runs 3 .int rX1_runs [.ref k0] (bW D (tM dN dZ) (wM k0 b1 b2 b3 b4 dN dZ Nm Pl Mk Th)) (nI (cu_runs T)) := by
  refine metR_of (by decide) (Nat.le_of_ble_eq_true rfl) (nb_narI _) ?_
  intro p e s m args below meth c H Q S hH hB kret ls hl
  have S : CallFix p m c cX1_runs 3 s args lw_all RX1 := S
  have hx := S.1
  have hb := S.2.1
  have hts := S.2.2.2.2
  obtain ⟨hP, hK⟩ := hB
  rw [hH] at hP
  have hl : lv_has ls 3 [(0, .ref k0)] := hl
  have loop : ∀ (n : Nat) (k : Nat), k ≤ 256 → 256 - k < n → ∀ ls : Array Slot, lv_has ls 3 [(0, .ref k0), (1, .int (nI (fb_ct (cu_st T) k))), (2, .int (nI k))] → W p l e rX1_runs s m args below meth c H [] 0 0 Q (F0 m 4 ls []) := by
    intro n
    induction n with
    | zero => intro k hk hm; exact absurd hm (Nat.not_lt_zero _)
    | succ n ih =>
      intro k hk hm ls hl
      refine lv_iload_n hx hb dX1_runs_4 rfl (lv_at hl 2 rfl) ?_
      refine lv_sipush (v := nI 256) hx hb dX1_runs_5 (by decide) ?_
      refine nb_icmp_ge (tgt := 54) hx hb dX1_runs_8 (by decide) (by omega) (by omega) (fun c0 => ?_) (fun c0 => ?_)
      · refine lv_iload_n hx hb dX1_runs_54 rfl (lv_at hl 1 rfl) ?_
        exact kret 55 ls (nI (fb_ct (cu_st T) k)) dX1_runs_55 (by rw [show k = 256 by omega]; rfl)
      · have hTk : ∀ n, n < 256 → Th (Pl n) = T n := fun n hn => by rw [hPR n hn, hT _ (cu_hn_hp n hn).2, (cu_hn_hp n hn).1]
        have hp1 := hPl k
        refine lv_aload_n hx hb dX1_runs_11 rfl (lv_at hl 0 rfl) ?_
        refine gM_3 S hK hP dX1_runs_12 ?_
        refine lv_aload_n hx hb dX1_runs_15 rfl (lv_at hl 0 rfl) ?_
        refine gM_1 S hK hP dX1_runs_16 ?_
        refine lv_iload_n hx hb dX1_runs_19 rfl (lv_at hl 2 rfl) ?_
        refine nb_iald hx hb hK hP 2 0 rfl rfl (by omega) (by decide) dX1_runs_20 ?_
        have b_1 := hPl k
        refine nb_zald hx hb hK hP 4 1 rfl rfl (by omega) (by decide) dX1_runs_21 ?_
        refine nb_if_eqB (tgt := 48) hx hb dX1_runs_22 (by decide) (fun c1 => ?_) (fun c1 => ?_)
        · rw [hTk k c0] at c1
          refine lv_iinc (v := nI (k + 1)) (lv' := [(2, .int (nI (k + 1))), (0, .ref k0), (1, .int (nI (fb_ct (cu_st T) k)))]) hx hb dX1_runs_48 hl (k := 2) rfl (nI_1 _) (by decide) rfl (fun ls hl => ?_)
          refine lv_goto (tgt := 4) hx hb dX1_runs_51 (by decide) ?_
          have e2 : fb_ct (cu_st T) (k + 1) = fb_ct (cu_st T) k := cu_ct_no (cu_st_no c1)
          rw [← e2] at hl
          exact ih (k + 1) (by omega) (by omega) ls (lv_sub hl [1, 2, 0] rfl)
        · rw [hTk k c0] at c1
          refine lv_iload_n hx hb dX1_runs_25 rfl (lv_at hl 2 rfl) ?_
          refine nb_if_eq (tgt := 45) hx hb dX1_runs_26 (by decide) (by omega) (fun c2 => ?_) (fun c2 => ?_)
          · refine lv_iinc (v := nI ((fb_ct (cu_st T) k) + 1)) (lv' := [(1, .int (nI ((fb_ct (cu_st T) k) + 1))), (0, .ref k0), (2, .int (nI k))]) hx hb dX1_runs_45 hl (k := 1) rfl (nI_1 _) (by decide) rfl (fun ls hl => ?_)
            refine lv_iinc (v := nI (k + 1)) (lv' := [(2, .int (nI (k + 1))), (1, .int (nI ((fb_ct (cu_st T) k) + 1))), (0, .ref k0)]) hx hb dX1_runs_48 hl (k := 2) rfl (nI_1 _) (by decide) rfl (fun ls hl => ?_)
            refine lv_goto (tgt := 4) hx hb dX1_runs_51 (by decide) ?_
            have e2 : fb_ct (cu_st T) (k + 1) = fb_ct (cu_st T) k + 1 := cu_ct_yes (cu_st_yes0 c1 c2)
            rw [← e2] at hl
            exact ih (k + 1) (by omega) (by omega) ls (lv_sub hl [2, 1, 0] rfl)
          · refine lv_aload_n hx hb dX1_runs_29 rfl (lv_at hl 0 rfl) ?_
            refine gM_3 S hK hP dX1_runs_30 ?_
            refine lv_aload_n hx hb dX1_runs_33 rfl (lv_at hl 0 rfl) ?_
            refine gM_1 S hK hP dX1_runs_34 ?_
            refine lv_iload_n hx hb dX1_runs_37 rfl (lv_at hl 2 rfl) ?_
            refine lv_iconst (v := nI 1) hx hb dX1_runs_38 (by decide) ?_
            refine nb_isub hx hb dX1_runs_39 (by omega) ?_
            refine nb_iald hx hb hK hP 2 0 rfl rfl (by omega) (by decide) dX1_runs_40 ?_
            have b_2 := hPl (k - 1)
            refine nb_zald hx hb hK hP 4 1 rfl rfl (by omega) (by decide) dX1_runs_41 ?_
            refine nb_if_neB (tgt := 48) hx hb dX1_runs_42 (by decide) (fun c3 => ?_) (fun c3 => ?_)
            · rw [hTk (k - 1) (by omega)] at c3
              refine lv_iinc (v := nI (k + 1)) (lv' := [(2, .int (nI (k + 1))), (0, .ref k0), (1, .int (nI (fb_ct (cu_st T) k)))]) hx hb dX1_runs_48 hl (k := 2) rfl (nI_1 _) (by decide) rfl (fun ls hl => ?_)
              refine lv_goto (tgt := 4) hx hb dX1_runs_51 (by decide) ?_
              have e2 : fb_ct (cu_st T) (k + 1) = fb_ct (cu_st T) k := cu_ct_no (cu_st_no1 c3 c2)
              rw [← e2] at hl
              exact ih (k + 1) (by omega) (by omega) ls (lv_sub hl [1, 2, 0] rfl)
            · rw [hTk (k - 1) (by omega)] at c3
              refine lv_iinc (v := nI ((fb_ct (cu_st T) k) + 1)) (lv' := [(1, .int (nI ((fb_ct (cu_st T) k) + 1))), (0, .ref k0), (2, .int (nI k))]) hx hb dX1_runs_45 hl (k := 1) rfl (nI_1 _) (by decide) rfl (fun ls hl => ?_)
              refine lv_iinc (v := nI (k + 1)) (lv' := [(2, .int (nI (k + 1))), (1, .int (nI ((fb_ct (cu_st T) k) + 1))), (0, .ref k0)]) hx hb dX1_runs_48 hl (k := 2) rfl (nI_1 _) (by decide) rfl (fun ls hl => ?_)
              refine lv_goto (tgt := 4) hx hb dX1_runs_51 (by decide) ?_
              have e2 : fb_ct (cu_st T) (k + 1) = fb_ct (cu_st T) k + 1 := cu_ct_yes (cu_st_yes1 c1 c3)
              rw [← e2] at hl
              exact ih (k + 1) (by omega) (by omega) ls (lv_sub hl [2, 1, 0] rfl)
  refine lv_iconst (v := nI 0) hx hb dX1_runs_0 (by decide) ?_
  refine lv_istore_n (lv' := [(1, .int (nI 0)), (0, .ref k0)]) hx hb dX1_runs_1 rfl hl (by decide) rfl (fun ls hl => ?_)
  refine lv_iconst (v := nI 0) hx hb dX1_runs_2 (by decide) ?_
  refine lv_istore_n (lv' := [(2, .int (nI 0)), (1, .int (nI 0)), (0, .ref k0)]) hx hb dX1_runs_3 rfl hl (by decide) rfl (fun ls hl => ?_)
  exact loop 257 0 (Nat.zero_le _) (by omega) ls (lv_sub hl [2, 1, 0] rfl)
set_option maxHeartbeats 4000000 in
set_option maxRecDepth 100000 in
/-- cells of the model -/
theorem mX1_cells (l : Launch) (D : va_G) (k0 b1 b2 b3 b4 : Nat) (dN dZ : ClassId) (Nm Pl : Nat → Nat) (Mk Th : Nat → Bool) (S0 : Nat → Nat → Bool) (hNm : ∀ q, Nm q < 256) (hPl : ∀ q, Pl q < 256) (hR : cu_RM Nm Pl Mk S0) (sv : Int32) : MetR l yX1_cells cX1_cells 4 .int rX1_cells [.ref k0, .int sv] (bW D (tM dN dZ) (wM k0 b1 b2 b3 b4 dN dZ Nm Pl Mk Th)) (cu_on (fun a => nI (fb_ct (S0 a) 256)) sv) := by
  refine metR_of (by decide) (Nat.le_of_ble_eq_true rfl) (nb_narI _) ?_
  intro p e s m args below meth c H Q S hH hB kret ls hl
  have S : CallFix p m c cX1_cells 4 s args lw_all RX1 := S
  have hx := S.1
  have hb := S.2.1
  have hts := S.2.2.2.2
  obtain ⟨hP, hK⟩ := hB
  rw [hH] at hP
  have hl : lv_has ls 4 [(0, .ref k0), (1, .int sv)] := hl
  refine lv_aload_n hx hb dX1_cells_0 rfl (lv_at hl 0 rfl) ?_
  refine lv_iload_n hx hb dX1_cells_1 rfl (lv_at hl 1 rfl) ?_
  refine cu_rcall (As := [.int sv]) (rest := []) S (mX1_isSet l k0 sv) (cwX1_isSet hts ⟨Nat.le_of_ble_eq_true rfl, Nat.le_of_ble_eq_true rfl⟩) (cu_preP (va_recv hK hP (ci := 1) (q0 := 0) rfl rfl)) rfl hl.1 rfl (Nat.le_of_ble_eq_true rfl) dX1_cells_2 (Nat.zero_le _) (Nat.zero_le _) ?_
  refine nb_if_neB (tgt := 10) hx hb dX1_cells_5 (by decide) (fun c1 => ?_) (fun c1 => ?_)
  · obtain ⟨a, ha, rfl⟩ := cu_ok_of c1
    have loop : ∀ (n : Nat) (k : Nat), k ≤ 256 → 256 - k < n → ∀ ls : Array Slot, lv_has ls 4 [(0, .ref k0), (1, .int (nI a)), (2, .int (nI (fb_ct (fun c => Mk (256 * a + c)) k))), (3, .int (nI k))] → W p l e rX1_cells s m args below meth c H [] 0 0 Q (F0 m 14 ls []) := by
      intro n
      induction n with
      | zero => intro k hk hm; exact absurd hm (Nat.not_lt_zero _)
      | succ n ih =>
        intro k hk hm ls hl
        refine lv_iload_n hx hb dX1_cells_14 rfl (lv_at hl 3 rfl) ?_
        refine lv_sipush (v := nI 256) hx hb dX1_cells_15 (by decide) ?_
        refine nb_icmp_ge (tgt := 45) hx hb dX1_cells_18 (by decide) (by omega) (by omega) (fun c2 => ?_) (fun c2 => ?_)
        · refine lv_iload_n hx hb dX1_cells_45 rfl (lv_at hl 2 rfl) ?_
          exact kret 46 ls (nI (fb_ct (fun c => Mk (256 * a + c)) k)) dX1_cells_46 (by rw [cu_on_ok ha, show k = 256 by omega, cu_ct_cells (hR.2.2 a ha)])
        · refine lv_aload_n hx hb dX1_cells_21 rfl (lv_at hl 0 rfl) ?_
          refine gM_2 S hK hP dX1_cells_22 ?_
          refine lv_sipush (v := nI 256) hx hb dX1_cells_25 (by decide) ?_
          refine lv_iload_n hx hb dX1_cells_28 rfl (lv_at hl 1 rfl) ?_
          refine nb_imul hx hb dX1_cells_29 ?_
          refine lv_iload_n hx hb dX1_cells_30 rfl (lv_at hl 3 rfl) ?_
          refine nb_iadd hx hb dX1_cells_31 ?_
          refine nb_zald hx hb hK hP 3 1 rfl rfl (by omega) (by decide) dX1_cells_32 ?_
          refine nb_if_eqB (tgt := 39) hx hb dX1_cells_33 (by decide) (fun c3 => ?_) (fun c3 => ?_)
          · refine lv_iinc (v := nI (k + 1)) (lv' := [(3, .int (nI (k + 1))), (0, .ref k0), (1, .int (nI a)), (2, .int (nI (fb_ct (fun c => Mk (256 * a + c)) k)))]) hx hb dX1_cells_39 hl (k := 3) rfl (nI_1 _) (by decide) rfl (fun ls hl => ?_)
            refine lv_goto (tgt := 14) hx hb dX1_cells_42 (by decide) ?_
            have e2 : fb_ct (fun c => Mk (256 * a + c)) (k + 1) = fb_ct (fun c => Mk (256 * a + c)) k := cu_ct_no c3
            rw [← e2] at hl
            exact ih (k + 1) (by omega) (by omega) ls (lv_sub hl [1, 2, 3, 0] rfl)
          · refine lv_iinc (v := nI ((fb_ct (fun c => Mk (256 * a + c)) k) + 1)) (lv' := [(2, .int (nI ((fb_ct (fun c => Mk (256 * a + c)) k) + 1))), (0, .ref k0), (1, .int (nI a)), (3, .int (nI k))]) hx hb dX1_cells_36 hl (k := 2) rfl (nI_1 _) (by decide) rfl (fun ls hl => ?_)
            refine lv_iinc (v := nI (k + 1)) (lv' := [(3, .int (nI (k + 1))), (2, .int (nI ((fb_ct (fun c => Mk (256 * a + c)) k) + 1))), (0, .ref k0), (1, .int (nI a))]) hx hb dX1_cells_39 hl (k := 3) rfl (nI_1 _) (by decide) rfl (fun ls hl => ?_)
            refine lv_goto (tgt := 14) hx hb dX1_cells_42 (by decide) ?_
            have e2 : fb_ct (fun c => Mk (256 * a + c)) (k + 1) = fb_ct (fun c => Mk (256 * a + c)) k + 1 := cu_ct_yes c3
            rw [← e2] at hl
            exact ih (k + 1) (by omega) (by omega) ls (lv_sub hl [2, 3, 1, 0] rfl)
    refine lv_iconst (v := nI 0) hx hb dX1_cells_10 (by decide) ?_
    refine lv_istore_n (lv' := [(2, .int (nI 0)), (0, .ref k0), (1, .int (nI a))]) hx hb dX1_cells_11 rfl hl (by decide) rfl (fun ls hl => ?_)
    refine lv_iconst (v := nI 0) hx hb dX1_cells_12 (by decide) ?_
    refine lv_istore_n (lv' := [(3, .int (nI 0)), (2, .int (nI 0)), (0, .ref k0), (1, .int (nI a))]) hx hb dX1_cells_13 rfl hl (by decide) rfl (fun ls hl => ?_)
    exact loop 257 0 (Nat.zero_le _) (by omega) ls (lv_sub hl [2, 3, 1, 0] rfl)
  · refine lv_iconst (v := (-1)) hx hb dX1_cells_8 (by decide) ?_
    exact kret 9 ls (-1) dX1_cells_9 (by rw [cu_on_no c1])
set_option maxHeartbeats 4000000 in
set_option maxRecDepth 100000 in
/-- has of the model -/
theorem mX1_has (l : Launch) (D : va_G) (k0 b1 b2 b3 b4 : Nat) (dN dZ : ClassId) (Nm Pl : Nat → Nat) (Mk Th : Nat → Bool) (S0 : Nat → Nat → Bool) (hNm : ∀ q, Nm q < 256) (hPl : ∀ q, Pl q < 256) (hR : cu_RM Nm Pl Mk S0) (sv xv yv : Int32) : MetR l yX1_has cX1_has 4 .boolean rX1_has [.ref k0, .int sv, .int xv, .int yv] (bW D (tM dN dZ) (wM k0 b1 b2 b3 b4 dN dZ Nm Pl Mk Th)) (nI (cu_has S0 sv xv yv).toNat) := by
  refine metR_of (by decide) (Nat.le_of_ble_eq_true rfl) (nb_narB _) ?_
  intro p e s m args below meth c H Q S hH hB kret ls hl
  have S : CallFix p m c cX1_has 4 s args lw_all RX1 := S
  have hx := S.1
  have hb := S.2.1
  have hts := S.2.2.2.2
  obtain ⟨hP, hK⟩ := hB
  rw [hH] at hP
  have hl : lv_has ls 4 [(0, .ref k0), (1, .int sv), (2, .int xv), (3, .int yv)] := hl
  have k41 : cu_has S0 sv xv yv = false → ∀ ls : Array Slot, W p l e rX1_has s m args below meth c H [] 0 0 Q (F0 m 41 ls []) := by
    intro hq ls
    refine lv_iconst (v := nI 0) hx hb dX1_has_41 (by decide) ?_
    exact kret 42 ls (nI 0) dX1_has_42 (by rw [hq]; rfl)
  refine lv_aload_n hx hb dX1_has_0 rfl (lv_at hl 0 rfl) ?_
  refine lv_iload_n hx hb dX1_has_1 rfl (lv_at hl 1 rfl) ?_
  refine cu_rcall (As := [.int sv]) (rest := []) S (mX1_isSet l k0 sv) (cwX1_isSet hts ⟨Nat.le_of_ble_eq_true rfl, Nat.le_of_ble_eq_true rfl⟩) (cu_preP (va_recv hK hP (ci := 1) (q0 := 0) rfl rfl)) rfl hl.1 rfl (Nat.le_of_ble_eq_true rfl) dX1_has_2 (Nat.zero_le _) (Nat.zero_le _) ?_
  refine nb_if_eqB (tgt := 41) hx hb dX1_has_5 (by decide) (fun c1 => ?_) (fun c1 => ?_)
  · exact k41 (by simp [cu_has, c1]) ls
  · refine lv_aload_n hx hb dX1_has_8 rfl (lv_at hl 0 rfl) ?_
    refine lv_iload_n hx hb dX1_has_9 rfl (lv_at hl 2 rfl) ?_
    refine lv_iload_n hx hb dX1_has_10 rfl (lv_at hl 3 rfl) ?_
    refine cu_rcall (As := [.int xv, .int yv]) (rest := []) S (mX1_isCell l k0 xv yv) (cwX1_isCell hts ⟨Nat.le_of_ble_eq_true rfl, Nat.le_of_ble_eq_true rfl⟩) (cu_preP (va_recv hK hP (ci := 1) (q0 := 0) rfl rfl)) rfl hl.1 rfl (Nat.le_of_ble_eq_true rfl) dX1_has_11 (Nat.zero_le _) (Nat.zero_le _) ?_
    refine nb_if_eqB (tgt := 41) hx hb dX1_has_14 (by decide) (fun c2 => ?_) (fun c2 => ?_)
    · exact k41 (by simp [cu_has, c2]) ls
    · obtain ⟨a, ha, rfl⟩ := cu_ok_of c1
      obtain ⟨x, y, hx1, hy1, rfl, rfl⟩ := cu_cell_of c2
      have hm : Mk (256 * a + 16 * x + y) = S0 a (cu_num x y) := by rw [Nat.add_assoc, hR.2.2 a ha _ (by omega), cu_hn_xy hx1 hy1]
      refine lv_aload_n hx hb dX1_has_17 rfl (lv_at hl 0 rfl) ?_
      refine gM_2 S hK hP dX1_has_18 ?_
      refine lv_sipush (v := nI 256) hx hb dX1_has_21 (by decide) ?_
      refine lv_iload_n hx hb dX1_has_24 rfl (lv_at hl 1 rfl) ?_
      refine nb_imul hx hb dX1_has_25 ?_
      refine lv_bipush (v := nI 16) hx hb dX1_has_26 (by decide) ?_
      refine lv_iload_n hx hb dX1_has_28 rfl (lv_at hl 2 rfl) ?_
      refine nb_imul hx hb dX1_has_29 ?_
      refine nb_iadd hx hb dX1_has_30 ?_
      refine lv_iload_n hx hb dX1_has_31 rfl (lv_at hl 3 rfl) ?_
      refine nb_iadd hx hb dX1_has_32 ?_
      refine nb_zald hx hb hK hP 3 1 rfl rfl (by omega) (by decide) dX1_has_33 ?_
      refine nb_if_eqB (tgt := 41) hx hb dX1_has_34 (by decide) (fun c3 => ?_) (fun c3 => ?_)
      · exact k41 (by rw [cu_has_ok ha hx1 hy1, ← hm]; exact c3) ls
      · refine lv_iconst (v := nI 1) hx hb dX1_has_37 (by decide) ?_
        refine lv_goto (tgt := 42) hx hb dX1_has_38 (by decide) ?_
        exact kret 42 ls (nI 1) dX1_has_42 (by rw [cu_has_ok ha hx1 hy1, ← hm, c3]; rfl)
set_option maxHeartbeats 4000000 in
set_option maxRecDepth 100000 in
/-- number of the model -/
theorem mX1_number (l : Launch) (D : va_G) (k0 b1 b2 b3 b4 : Nat) (dN dZ : ClassId) (Nm Pl : Nat → Nat) (Mk Th : Nat → Bool) (S0 : Nat → Nat → Bool) (hNm : ∀ q, Nm q < 256) (hPl : ∀ q, Pl q < 256) (hR : cu_RM Nm Pl Mk S0) (xv yv : Int32) : MetR l yX1_number cX1_number 3 .int rX1_number [.ref k0, .int xv, .int yv] (bW D (tM dN dZ) (wM k0 b1 b2 b3 b4 dN dZ Nm Pl Mk Th)) (cu_cnum xv yv) := by
  refine metR_of (by decide) (Nat.le_of_ble_eq_true rfl) (nb_narI _) ?_
  intro p e s m args below meth c H Q S hH hB kret ls hl
  have S : CallFix p m c cX1_number 3 s args lw_all RX1 := S
  have hx := S.1
  have hb := S.2.1
  have hts := S.2.2.2.2
  obtain ⟨hP, hK⟩ := hB
  rw [hH] at hP
  have hl : lv_has ls 3 [(0, .ref k0), (1, .int xv), (2, .int yv)] := hl
  refine lv_aload_n hx hb dX1_number_0 rfl (lv_at hl 0 rfl) ?_
  refine lv_iload_n hx hb dX1_number_1 rfl (lv_at hl 1 rfl) ?_
  refine lv_iload_n hx hb dX1_number_2 rfl (lv_at hl 2 rfl) ?_
  refine cu_rcall (As := [.int xv, .int yv]) (rest := []) S (mX1_isCell l k0 xv yv) (cwX1_isCell hts ⟨Nat.le_of_ble_eq_true rfl, Nat.le_of_ble_eq_true rfl⟩) (cu_preP (va_recv hK hP (ci := 1) (q0 := 0) rfl rfl)) rfl hl.1 rfl (Nat.le_of_ble_eq_true rfl) dX1_number_3 (Nat.zero_le _) (Nat.zero_le _) ?_
  refine nb_if_eqB (tgt := 23) hx hb dX1_number_6 (by decide) (fun c2 => ?_) (fun c2 => ?_)
  · refine lv_iconst (v := (-1)) hx hb dX1_number_23 (by decide) ?_
    exact kret 24 ls (-1) dX1_number_24 (by rw [cu_cnum_no c2])
  · obtain ⟨x, y, hx1, hy1, rfl, rfl⟩ := cu_cell_of c2
    refine lv_aload_n hx hb dX1_number_9 rfl (lv_at hl 0 rfl) ?_
    refine gM_0 S hK hP dX1_number_10 ?_
    refine lv_bipush (v := nI 16) hx hb dX1_number_13 (by decide) ?_
    refine lv_iload_n hx hb dX1_number_15 rfl (lv_at hl 1 rfl) ?_
    refine nb_imul hx hb dX1_number_16 ?_
    refine lv_iload_n hx hb dX1_number_17 rfl (lv_at hl 2 rfl) ?_
    refine nb_iadd hx hb dX1_number_18 ?_
    refine nb_iald hx hb hK hP 1 0 rfl rfl (by omega) (by decide) dX1_number_19 ?_
    have b_1 := hNm ((16 * x) + y)
    refine lv_goto (tgt := 24) hx hb dX1_number_20 (by decide) ?_
    exact kret 24 ls (nI (Nm ((16 * x) + y))) dX1_number_24 (by rw [cu_cnum_ok hx1 hy1, hR.1 _ (by omega), cu_hn_xy hx1 hy1])
set_option maxHeartbeats 4000000 in
set_option maxRecDepth 100000 in
/-- place of the model -/
theorem mX1_place (l : Launch) (D : va_G) (k0 b1 b2 b3 b4 : Nat) (dN dZ : ClassId) (Nm Pl : Nat → Nat) (Mk Th : Nat → Bool) (S0 : Nat → Nat → Bool) (hNm : ∀ q, Nm q < 256) (hPl : ∀ q, Pl q < 256) (hR : cu_RM Nm Pl Mk S0) (nv : Int32) : MetR l yX1_place cX1_place 2 .int rX1_place [.ref k0, .int nv] (bW D (tM dN dZ) (wM k0 b1 b2 b3 b4 dN dZ Nm Pl Mk Th)) (cu_plc nv) := by
  refine metR_of (by decide) (Nat.le_of_ble_eq_true rfl) (nb_narI _) ?_
  intro p e s m args below meth c H Q S hH hB kret ls hl
  have S : CallFix p m c cX1_place 2 s args lw_all RX1 := S
  have hx := S.1
  have hb := S.2.1
  have hts := S.2.2.2.2
  obtain ⟨hP, hK⟩ := hB
  rw [hH] at hP
  have hl : lv_has ls 2 [(0, .ref k0), (1, .int nv)] := hl
  refine lv_iload_n hx hb dX1_place_0 rfl (lv_at hl 1 rfl) ?_
  refine lv_if_lt (tgt := 20) hx hb dX1_place_1 (by decide) (fun c1 => ?_) (fun c1 => ?_)
  · refine lv_iconst (v := (-1)) hx hb dX1_place_20 (by decide) ?_
    exact kret 21 ls (-1) dX1_place_21 (by rw [cu_plc, if_neg (fun q => q.1 c1)])
  · refine lv_iload_n hx hb dX1_place_4 rfl (lv_at hl 1 rfl) ?_
    refine lv_sipush (v := nI 255) hx hb dX1_place_5 (by decide) ?_
    refine lv_icmp_gt (tgt := 20) hx hb dX1_place_8 (by decide) (fun c2 => ?_) (fun c2 => ?_)
    · refine lv_iconst (v := (-1)) hx hb dX1_place_20 (by decide) ?_
      exact kret 21 ls (-1) dX1_place_21 (by rw [cu_plc, if_neg (fun q => q.2 c2)])
    · obtain ⟨n, hn, rfl⟩ := cu_of_to (n := 255) (by omega) c1 c2
      refine lv_aload_n hx hb dX1_place_11 rfl (lv_at hl 0 rfl) ?_
      refine gM_1 S hK hP dX1_place_12 ?_
      refine lv_iload_n hx hb dX1_place_15 rfl (lv_at hl 1 rfl) ?_
      refine nb_iald hx hb hK hP 2 0 rfl rfl (by omega) (by decide) dX1_place_16 ?_
      have b_1 := hPl n
      refine lv_goto (tgt := 21) hx hb dX1_place_17 (by decide) ?_
      exact kret 21 ls (nI (Pl n)) dX1_place_21 (by rw [cu_plc_ok (show n < 256 by omega), hR.2.1 n (by omega)])
set_option maxHeartbeats 4000000 in
set_option maxRecDepth 100000 in
/-- nth of the model -/
theorem mX1_nth (l : Launch) (D : va_G) (k0 b1 b2 b3 b4 : Nat) (dN dZ : ClassId) (Nm Pl : Nat → Nat) (Mk Th : Nat → Bool) (S0 : Nat → Nat → Bool) (hNm : ∀ q, Nm q < 256) (hPl : ∀ q, Pl q < 256) (hR : cu_RM Nm Pl Mk S0) (sv kv : Int32) : MetR l yX1_nth cX1_nth 5 .int rX1_nth [.ref k0, .int sv, .int kv] (bW D (tM dN dZ) (wM k0 b1 b2 b3 b4 dN dZ Nm Pl Mk Th)) (cu_on (fun a => cu_sel (S0 a) (fun n => nI (cu_hp n)) kv) sv) := by
  refine metR_of (by decide) (Nat.le_of_ble_eq_true rfl) (nb_narI _) ?_
  intro p e s m args below meth c H Q S hH hB kret ls hl
  have S : CallFix p m c cX1_nth 5 s args lw_all RX1 := S
  have hx := S.1
  have hb := S.2.1
  have hts := S.2.2.2.2
  obtain ⟨hP, hK⟩ := hB
  rw [hH] at hP
  have hl : lv_has ls 5 [(0, .ref k0), (1, .int sv), (2, .int kv)] := hl
  refine lv_aload_n hx hb dX1_nth_0 rfl (lv_at hl 0 rfl) ?_
  refine lv_iload_n hx hb dX1_nth_1 rfl (lv_at hl 1 rfl) ?_
  refine cu_rcall (As := [.int sv]) (rest := []) S (mX1_isSet l k0 sv) (cwX1_isSet hts ⟨Nat.le_of_ble_eq_true rfl, Nat.le_of_ble_eq_true rfl⟩) (cu_preP (va_recv hK hP (ci := 1) (q0 := 0) rfl rfl)) rfl hl.1 rfl (Nat.le_of_ble_eq_true rfl) dX1_nth_2 (Nat.zero_le _) (Nat.zero_le _) ?_
  refine nb_if_neB (tgt := 10) hx hb dX1_nth_5 (by decide) (fun c1 => ?_) (fun c1 => ?_)
  · obtain ⟨a, ha, rfl⟩ := cu_ok_of c1
    have loop : ∀ (n : Nat) (k : Nat), k ≤ 256 → (∀ n, n < k → S0 a n = true → nI (fb_ct (S0 a) n) ≠ kv) → 256 - k < n → ∀ ls : Array Slot, lv_has ls 5 [(0, .ref k0), (1, .int (nI a)), (2, .int kv), (3, .int (nI (fb_ct (S0 a) k))), (4, .int (nI k))] → W p l e rX1_nth s m args below meth c H [] 0 0 Q (F0 m 15 ls []) := by
      intro n
      induction n with
      | zero => intro k hk hno hm; exact absurd hm (Nat.not_lt_zero _)
      | succ n ih =>
        intro k hk hno hm ls hl
        refine lv_iload hx hb dX1_nth_15 (lv_at hl 4 rfl) ?_
        refine lv_sipush (v := nI 256) hx hb dX1_nth_17 (by decide) ?_
        refine nb_icmp_ge (tgt := 66) hx hb dX1_nth_20 (by decide) (by omega) (by omega) (fun c2 => ?_) (fun c2 => ?_)
        · refine lv_bipush (v := (-3)) hx hb dX1_nth_66 (by decide) ?_
          exact kret 68 ls (-3) dX1_nth_68 (by rw [cu_on_ok ha, cu_sel_no (fun n q => hno n (by omega))])
        · have hat := hR.at ha c2
          have hp1 := hPl k
          refine lv_aload_n hx hb dX1_nth_23 rfl (lv_at hl 0 rfl) ?_
          refine gM_2 S hK hP dX1_nth_24 ?_
          refine lv_sipush (v := nI 256) hx hb dX1_nth_27 (by decide) ?_
          refine lv_iload_n hx hb dX1_nth_30 rfl (lv_at hl 1 rfl) ?_
          refine nb_imul hx hb dX1_nth_31 ?_
          refine lv_aload_n hx hb dX1_nth_32 rfl (lv_at hl 0 rfl) ?_
          refine gM_1 S hK hP dX1_nth_33 ?_
          refine lv_iload hx hb dX1_nth_36 (lv_at hl 4 rfl) ?_
          refine nb_iald hx hb hK hP 2 0 rfl rfl (by omega) (by decide) dX1_nth_38 ?_
          have b_1 := hPl k
          refine nb_iadd hx hb dX1_nth_39 ?_
          refine nb_zald hx hb hK hP 3 1 rfl rfl (by omega) (by decide) dX1_nth_40 ?_
          refine nb_if_eqB (tgt := 60) hx hb dX1_nth_41 (by decide) (fun c3 => ?_) (fun c3 => ?_)
          · rw [hat.1] at c3
            refine lv_iinc (v := nI (k + 1)) (lv' := [(4, .int (nI (k + 1))), (0, .ref k0), (1, .int (nI a)), (2, .int kv), (3, .int (nI (fb_ct (S0 a) k)))]) hx hb dX1_nth_60 hl (k := 4) rfl (nI_1 _) (by decide) rfl (fun ls hl => ?_)
            refine lv_goto (tgt := 15) hx hb dX1_nth_63 (by decide) ?_
            have e2 : fb_ct (S0 a) (k + 1) = fb_ct (S0 a) k := cu_ct_no c3
            rw [← e2] at hl
            exact ih (k + 1) (by omega) (lt_s hno (fun q => absurd (c3.symm.trans q) (by decide))) (by omega) ls (lv_sub hl [1, 2, 3, 4, 0] rfl)
          · rw [hat.1] at c3
            refine lv_iload_n hx hb dX1_nth_44 rfl (lv_at hl 3 rfl) ?_
            refine lv_iload_n hx hb dX1_nth_45 rfl (lv_at hl 2 rfl) ?_
            refine lv_icmp_ne (tgt := 57) hx hb dX1_nth_46 (by decide) (fun c4 => ?_) (fun c4 => ?_)
            · refine lv_iinc (v := nI ((fb_ct (S0 a) k) + 1)) (lv' := [(3, .int (nI ((fb_ct (S0 a) k) + 1))), (0, .ref k0), (1, .int (nI a)), (2, .int kv), (4, .int (nI k))]) hx hb dX1_nth_57 hl (k := 3) rfl (nI_1 _) (by decide) rfl (fun ls hl => ?_)
              refine lv_iinc (v := nI (k + 1)) (lv' := [(4, .int (nI (k + 1))), (3, .int (nI ((fb_ct (S0 a) k) + 1))), (0, .ref k0), (1, .int (nI a)), (2, .int kv)]) hx hb dX1_nth_60 hl (k := 4) rfl (nI_1 _) (by decide) rfl (fun ls hl => ?_)
              refine lv_goto (tgt := 15) hx hb dX1_nth_63 (by decide) ?_
              have e2 : fb_ct (S0 a) (k + 1) = fb_ct (S0 a) k + 1 := cu_ct_yes c3
              rw [← e2] at hl
              exact ih (k + 1) (by omega) (lt_s hno (fun q => c4)) (by omega) ls (lv_sub hl [2, 3, 4, 1, 0] rfl)
            · refine lv_aload_n hx hb dX1_nth_49 rfl (lv_at hl 0 rfl) ?_
              refine gM_1 S hK hP dX1_nth_50 ?_
              refine lv_iload hx hb dX1_nth_53 (lv_at hl 4 rfl) ?_
              refine nb_iald hx hb hK hP 2 0 rfl rfl (by omega) (by decide) dX1_nth_55 ?_
              have b_2 := hPl k
              exact kret 56 ls (nI (Pl k)) dX1_nth_56 (by rw [cu_on_ok ha, cu_sel_at (n := k) c2 c3 c4, hR.2.1 k c2])
    refine lv_iconst (v := nI 0) hx hb dX1_nth_10 (by decide) ?_
    refine lv_istore_n (lv' := [(3, .int (nI 0)), (0, .ref k0), (1, .int (nI a)), (2, .int kv)]) hx hb dX1_nth_11 rfl hl (by decide) rfl (fun ls hl => ?_)
    refine lv_iconst (v := nI 0) hx hb dX1_nth_12 (by decide) ?_
    refine lv_istore (lv' := [(4, .int (nI 0)), (3, .int (nI 0)), (0, .ref k0), (1, .int (nI a)), (2, .int kv)]) hx hb dX1_nth_13 hl (by decide) rfl (fun ls hl => ?_)
    exact loop 257 0 (Nat.zero_le _) (fun n q => absurd q (Nat.not_lt_zero _)) (by omega) ls (lv_sub hl [2, 3, 4, 1, 0] rfl)
  · refine lv_iconst (v := (-1)) hx hb dX1_nth_8 (by decide) ?_
    exact kret 9 ls (-1) dX1_nth_9 (by rw [cu_on_no c1])
end
section
set_option maxHeartbeats 4000000 in
set_option maxRecDepth 100000 in
/-- whole -/
theorem mX1_whole (l : Launch) (D : va_G) (k0 b1 b2 b3 b4 : Nat) (dN dZ : ClassId) (Nm Pl : Nat → Nat) (Mk Th : Nat → Bool) (a v u w_ : Nat) (ha : a < 4) (hv : v ≤ 4) (hu : u < 32) (hw : w_ < 32) : MetR l yX1_whole cX1_whole 6 .boolean rX1_whole [.ref k0, .int (nI a), .int (nI v), .int (nI u), .int (nI w_)] (bW D (tM dN dZ) (wM k0 b1 b2 b3 b4 dN dZ Nm Pl Mk Th)) (nI (cu_whc Mk a v u w_).toNat) := by
  refine metR_of (by decide) (Nat.le_of_ble_eq_true rfl) (nb_narB _) ?_
  intro p e s m args below meth c H Q S hH hB kret ls hl
  have S : CallFix p m c cX1_whole 6 s args lw_all RX1 := S
  have hx := S.1
  have hb := S.2.1
  have hts := S.2.2.2.2
  obtain ⟨hP, hK⟩ := hB
  rw [hH] at hP
  have hl : lv_has ls 6 [(0, .ref k0), (1, .int (nI a)), (2, .int (nI v)), (3, .int (nI u)), (4, .int (nI w_))] := hl
  have loop : ∀ (n : Nat) (k : Nat), k ≤ 256 → (∀ c, c < k → cu_isq c v u w_ = true → Mk (256 * a + c) = true) → 256 - k < n → ∀ ls : Array Slot, lv_has ls 6 [(0, .ref k0), (1, .int (nI a)), (2, .int (nI v)), (3, .int (nI u)), (4, .int (nI w_)), (5, .int (nI k))] → W p l e rX1_whole s m args below meth c H [] 0 0 Q (F0 m 3 ls []) := by
    intro n
    induction n with
    | zero => intro k hk hal hm; exact absurd hm (Nat.not_lt_zero _)
    | succ n ih =>
      intro k hk hal hm ls hl
      refine lv_iload hx hb dX1_whole_3 (lv_at hl 5 rfl) ?_
      refine lv_sipush (v := nI 256) hx hb dX1_whole_5 (by decide) ?_
      refine nb_icmp_ge (tgt := 48) hx hb dX1_whole_8 (by decide) (by omega) (by omega) (fun c0 => ?_) (fun c0 => ?_)
      · refine lv_iconst (v := nI 1) hx hb dX1_whole_48 (by decide) ?_
        exact kret 49 ls (nI 1) dX1_whole_49 (by rw [cu_whc_iff.mpr (fun c q => hal c (by omega))]; rfl)
      · refine lv_aload_n hx hb dX1_whole_11 rfl (lv_at hl 0 rfl) ?_
        refine lv_iload hx hb dX1_whole_12 (lv_at hl 5 rfl) ?_
        refine lv_iload_n hx hb dX1_whole_14 rfl (lv_at hl 2 rfl) ?_
        refine lv_iload_n hx hb dX1_whole_15 rfl (lv_at hl 3 rfl) ?_
        refine lv_iload hx hb dX1_whole_16 (lv_at hl 4 rfl) ?_
        refine cu_rcall (As := [.int (nI k), .int (nI v), .int (nI u), .int (nI w_)]) (rest := []) S (mX1_inSquare l k0 k v u w_ c0 hv hu hw) (cwX1_inSquare hts ⟨Nat.le_of_ble_eq_true rfl, Nat.le_of_ble_eq_true rfl⟩) (cu_preP (va_recv hK hP (ci := 1) (q0 := 0) rfl rfl)) rfl hl.1 rfl (Nat.le_of_ble_eq_true rfl) dX1_whole_18 (Nat.zero_le _) (Nat.zero_le _) ?_
        refine nb_if_eqB (tgt := 42) hx hb dX1_whole_21 (by decide) (fun c1 => ?_) (fun c1 => ?_)
        · refine lv_iinc (v := nI (k + 1)) (lv' := [(5, .int (nI (k + 1))), (0, .ref k0), (1, .int (nI a)), (2, .int (nI v)), (3, .int (nI u)), (4, .int (nI w_))]) hx hb dX1_whole_42 hl (k := 5) rfl (nI_1 _) (by decide) rfl (fun ls hl => ?_)
          refine lv_goto (tgt := 3) hx hb dX1_whole_45 (by decide) ?_
          exact ih (k + 1) (by omega) (lt_s hal (fun q => absurd (c1.symm.trans q) (by decide))) (by omega) ls (lv_sub hl [1, 2, 3, 4, 5, 0] rfl)
        · refine lv_aload_n hx hb dX1_whole_24 rfl (lv_at hl 0 rfl) ?_
          refine gM_2 S hK hP dX1_whole_25 ?_
          refine lv_sipush (v := nI 256) hx hb dX1_whole_28 (by decide) ?_
          refine lv_iload_n hx hb dX1_whole_31 rfl (lv_at hl 1 rfl) ?_
          refine nb_imul hx hb dX1_whole_32 ?_
          refine lv_iload hx hb dX1_whole_33 (lv_at hl 5 rfl) ?_
          refine nb_iadd hx hb dX1_whole_35 ?_
          refine nb_zald hx hb hK hP 3 1 rfl rfl (by omega) (by decide) dX1_whole_36 ?_
          refine nb_if_neB (tgt := 42) hx hb dX1_whole_37 (by decide) (fun c2 => ?_) (fun c2 => ?_)
          · refine lv_iinc (v := nI (k + 1)) (lv' := [(5, .int (nI (k + 1))), (0, .ref k0), (1, .int (nI a)), (2, .int (nI v)), (3, .int (nI u)), (4, .int (nI w_))]) hx hb dX1_whole_42 hl (k := 5) rfl (nI_1 _) (by decide) rfl (fun ls hl => ?_)
            refine lv_goto (tgt := 3) hx hb dX1_whole_45 (by decide) ?_
            exact ih (k + 1) (by omega) (lt_s hal (fun q => c2)) (by omega) ls (lv_sub hl [1, 2, 3, 4, 5, 0] rfl)
          · refine lv_iconst (v := nI 0) hx hb dX1_whole_40 (by decide) ?_
            exact kret 41 ls (nI 0) dX1_whole_41 (by rw [cu_whc_f c0 c1 c2]; rfl)
  refine lv_iconst (v := nI 0) hx hb dX1_whole_0 (by decide) ?_
  refine lv_istore (lv' := [(5, .int (nI 0)), (0, .ref k0), (1, .int (nI a)), (2, .int (nI v)), (3, .int (nI u)), (4, .int (nI w_))]) hx hb dX1_whole_1 hl (by decide) rfl (fun ls hl => ?_)
  exact loop 257 0 (Nat.zero_le _) (fun c q => absurd q (Nat.not_lt_zero _)) (by omega) ls (lv_sub hl [1, 2, 3, 4, 5, 0] rfl)
set_option maxHeartbeats 4000000 in
set_option maxRecDepth 100000 in
/-- some -/
theorem mX1_some (l : Launch) (D : va_G) (k0 b1 b2 b3 b4 : Nat) (dN dZ : ClassId) (Nm Pl : Nat → Nat) (Mk Th : Nat → Bool) (a v u w_ : Nat) (ha : a < 4) (hv : v ≤ 4) (hu : u < 32) (hw : w_ < 32) : MetR l yX1_some cX1_some 6 .boolean rX1_some [.ref k0, .int (nI a), .int (nI v), .int (nI u), .int (nI w_)] (bW D (tM dN dZ) (wM k0 b1 b2 b3 b4 dN dZ Nm Pl Mk Th)) (nI (cu_smc Mk a v u w_).toNat) := by
  refine metR_of (by decide) (Nat.le_of_ble_eq_true rfl) (nb_narB _) ?_
  intro p e s m args below meth c H Q S hH hB kret ls hl
  have S : CallFix p m c cX1_some 6 s args lw_all RX1 := S
  have hx := S.1
  have hb := S.2.1
  have hts := S.2.2.2.2
  obtain ⟨hP, hK⟩ := hB
  rw [hH] at hP
  have hl : lv_has ls 6 [(0, .ref k0), (1, .int (nI a)), (2, .int (nI v)), (3, .int (nI u)), (4, .int (nI w_))] := hl
  have loop : ∀ (n : Nat) (k : Nat), k ≤ 256 → (∀ c, c < k → Mk (256 * a + c) = true → cu_isq c v u w_ = true → False) → 256 - k < n → ∀ ls : Array Slot, lv_has ls 6 [(0, .ref k0), (1, .int (nI a)), (2, .int (nI v)), (3, .int (nI u)), (4, .int (nI w_)), (5, .int (nI k))] → W p l e rX1_some s m args below meth c H [] 0 0 Q (F0 m 3 ls []) := by
    intro n
    induction n with
    | zero => intro k hk hal hm; exact absurd hm (Nat.not_lt_zero _)
    | succ n ih =>
      intro k hk hal hm ls hl
      refine lv_iload hx hb dX1_some_3 (lv_at hl 5 rfl) ?_
      refine lv_sipush (v := nI 256) hx hb dX1_some_5 (by decide) ?_
      refine nb_icmp_ge (tgt := 48) hx hb dX1_some_8 (by decide) (by omega) (by omega) (fun c0 => ?_) (fun c0 => ?_)
      · refine lv_iconst (v := nI 0) hx hb dX1_some_48 (by decide) ?_
        exact kret 49 ls (nI 0) dX1_some_49 (by rw [cu_smc_f (fun c q => hal c (by omega))]; rfl)
      · refine lv_aload_n hx hb dX1_some_11 rfl (lv_at hl 0 rfl) ?_
        refine gM_2 S hK hP dX1_some_12 ?_
        refine lv_sipush (v := nI 256) hx hb dX1_some_15 (by decide) ?_
        refine lv_iload_n hx hb dX1_some_18 rfl (lv_at hl 1 rfl) ?_
        refine nb_imul hx hb dX1_some_19 ?_
        refine lv_iload hx hb dX1_some_20 (lv_at hl 5 rfl) ?_
        refine nb_iadd hx hb dX1_some_22 ?_
        refine nb_zald hx hb hK hP 3 1 rfl rfl (by omega) (by decide) dX1_some_23 ?_
        refine nb_if_eqB (tgt := 42) hx hb dX1_some_24 (by decide) (fun c1 => ?_) (fun c1 => ?_)
        · refine lv_iinc (v := nI (k + 1)) (lv' := [(5, .int (nI (k + 1))), (0, .ref k0), (1, .int (nI a)), (2, .int (nI v)), (3, .int (nI u)), (4, .int (nI w_))]) hx hb dX1_some_42 hl (k := 5) rfl (nI_1 _) (by decide) rfl (fun ls hl => ?_)
          refine lv_goto (tgt := 3) hx hb dX1_some_45 (by decide) ?_
          exact ih (k + 1) (by omega) (lt_s hal (fun q1 q2 => absurd (c1.symm.trans q1) (by decide))) (by omega) ls (lv_sub hl [1, 2, 3, 4, 5, 0] rfl)
        · refine lv_aload_n hx hb dX1_some_27 rfl (lv_at hl 0 rfl) ?_
          refine lv_iload hx hb dX1_some_28 (lv_at hl 5 rfl) ?_
          refine lv_iload_n hx hb dX1_some_30 rfl (lv_at hl 2 rfl) ?_
          refine lv_iload_n hx hb dX1_some_31 rfl (lv_at hl 3 rfl) ?_
          refine lv_iload hx hb dX1_some_32 (lv_at hl 4 rfl) ?_
          refine cu_rcall (As := [.int (nI k), .int (nI v), .int (nI u), .int (nI w_)]) (rest := []) S (mX1_inSquare l k0 k v u w_ c0 hv hu hw) (cwX1_inSquare hts ⟨Nat.le_of_ble_eq_true rfl, Nat.le_of_ble_eq_true rfl⟩) (cu_preP (va_recv hK hP (ci := 1) (q0 := 0) rfl rfl)) rfl hl.1 rfl (Nat.le_of_ble_eq_true rfl) dX1_some_34 (Nat.zero_le _) (Nat.zero_le _) ?_
          refine nb_if_eqB (tgt := 42) hx hb dX1_some_37 (by decide) (fun c2 => ?_) (fun c2 => ?_)
          · refine lv_iinc (v := nI (k + 1)) (lv' := [(5, .int (nI (k + 1))), (0, .ref k0), (1, .int (nI a)), (2, .int (nI v)), (3, .int (nI u)), (4, .int (nI w_))]) hx hb dX1_some_42 hl (k := 5) rfl (nI_1 _) (by decide) rfl (fun ls hl => ?_)
            refine lv_goto (tgt := 3) hx hb dX1_some_45 (by decide) ?_
            exact ih (k + 1) (by omega) (lt_s hal (fun q1 q2 => absurd (c2.symm.trans q2) (by decide))) (by omega) ls (lv_sub hl [1, 2, 3, 4, 5, 0] rfl)
          · refine lv_iconst (v := nI 1) hx hb dX1_some_40 (by decide) ?_
            exact kret 41 ls (nI 1) dX1_some_41 (by rw [cu_smc_iff.mpr ⟨k, c0, c1, c2⟩]; rfl)
  refine lv_iconst (v := nI 0) hx hb dX1_some_0 (by decide) ?_
  refine lv_istore (lv' := [(5, .int (nI 0)), (0, .ref k0), (1, .int (nI a)), (2, .int (nI v)), (3, .int (nI u)), (4, .int (nI w_))]) hx hb dX1_some_1 hl (by decide) rfl (fun ls hl => ?_)
  exact loop 257 0 (Nat.zero_le _) (fun c q => absurd q (Nat.not_lt_zero _)) (by omega) ls (lv_sub hl [1, 2, 3, 4, 5, 0] rfl)
set_option maxHeartbeats 4000000 in
set_option maxRecDepth 100000 in
/-- levelAt -/
theorem mX1_levelAt (l : Launch) (D : va_G) (k0 b1 b2 b3 b4 : Nat) (dN dZ : ClassId) (Nm Pl : Nat → Nat) (Mk Th : Nat → Bool) (S0 : Nat → Nat → Bool) (hNm : ∀ q, Nm q < 256) (hPl : ∀ q, Pl q < 256) (hR : cu_RM Nm Pl Mk S0) (a c_ : Nat) (ha : a < 4) (hc : c_ < 256) : MetR l yX1_levelAt cX1_levelAt 5 .int rX1_levelAt [.ref k0, .int (nI a), .int (nI c_)] (bW D (tM dN dZ) (wM k0 b1 b2 b3 b4 dN dZ Nm Pl Mk Th)) (nI (cu_lev (S0 a) (cu_hn c_))) := by
  refine metR_of (by decide) (Nat.le_of_ble_eq_true rfl) (nb_narI _) ?_
  intro p e s m args below meth c H Q S hH hB kret ls hl
  have S : CallFix p m c cX1_levelAt 5 s args lw_all RX1 := S
  have hx := S.1
  have hb := S.2.1
  have hts := S.2.2.2.2
  obtain ⟨hP, hK⟩ := hB
  rw [hH] at hP
  have hl : lv_has ls 5 [(0, .ref k0), (1, .int (nI a)), (2, .int (nI c_))] := hl
  have loop : ∀ (n : Nat) (v : Nat), v ≤ 4 → (∀ k, k < v → cu_wh (S0 a) k (cu_hn c_) = false) → 4 - v < n → ∀ ls : Array Slot, lv_has ls 5 [(0, .ref k0), (1, .int (nI a)), (2, .int (nI c_)), (3, .int (nI v))] → W p l e rX1_levelAt s m args below meth c H [] 0 0 Q (F0 m 2 ls []) := by
    intro n
    induction n with
    | zero => intro v hv hno hm; exact absurd hm (Nat.not_lt_zero _)
    | succ n ih =>
      intro v hv hno hm ls hl
      refine lv_iload_n hx hb dX1_levelAt_2 rfl (lv_at hl 3 rfl) ?_
      refine lv_iconst (v := nI 4) hx hb dX1_levelAt_3 (by decide) ?_
      refine nb_icmp_ge (tgt := 49) hx hb dX1_levelAt_4 (by decide) (by omega) (by omega) (fun c0 => ?_) (fun c0 => ?_)
      · refine lv_iconst (v := nI 4) hx hb dX1_levelAt_49 (by decide) ?_
        exact kret 50 ls (nI 4) dX1_levelAt_50 (by rw [cu_lev_4 (fun k q => hno k (by omega))])
      · have hs := cu_sd_pow hv
        refine lv_bipush (v := nI 16) hx hb dX1_levelAt_7 (by decide) ?_
        refine lv_iload_n hx hb dX1_levelAt_9 rfl (lv_at hl 3 rfl) ?_
        refine nb_ishr hx hb dX1_levelAt_10 (by omega) (by omega) ?_
        refine nb_top (y := nI (cu_sd v)) (by rw [hs.1]) ?_
        refine lv_istore (lv' := [(4, .int (nI (cu_sd v))), (0, .ref k0), (1, .int (nI a)), (2, .int (nI c_)), (3, .int (nI v))]) hx hb dX1_levelAt_11 hl (by decide) rfl (fun ls hl => ?_)
        refine lv_iload hx hb dX1_levelAt_13 (lv_at hl 0 rfl) ?_
        refine nb_if_le (tgt := 43) hx hb dX1_levelAt_15 (by decide) (by omega) (fun c1 => ?_) (fun c1 => ?_)
        · exfalso; omega
        · refine lv_aload_n hx hb dX1_levelAt_18 rfl (lv_at hl 1 rfl) ?_
          refine lv_iload_n hx hb dX1_levelAt_19 rfl (lv_at hl 2 rfl) ?_
          refine lv_iload_n hx hb dX1_levelAt_20 rfl (lv_at hl 4 rfl) ?_
          refine lv_iload_n hx hb dX1_levelAt_21 rfl (lv_at hl 3 rfl) ?_
          refine lv_bipush (v := nI 16) hx hb dX1_levelAt_22 (by decide) ?_
          refine nb_idiv hx hb dX1_levelAt_24 (by omega) (by omega) (by omega) ?_
          refine lv_iload hx hb dX1_levelAt_25 (lv_at hl 0 rfl) ?_
          refine nb_idiv hx hb dX1_levelAt_27 (by omega) (by omega) (by omega) ?_
          refine lv_iload_n hx hb dX1_levelAt_28 rfl (lv_at hl 3 rfl) ?_
          refine lv_bipush (v := nI 16) hx hb dX1_levelAt_29 (by decide) ?_
          refine nb_irem hx hb dX1_levelAt_31 (by omega) (by omega) (by omega) ?_
          refine lv_iload hx hb dX1_levelAt_32 (lv_at hl 0 rfl) ?_
          refine nb_idiv hx hb dX1_levelAt_34 (by omega) (by omega) (by omega) ?_
          refine cu_rcall (As := [.int (nI a), .int (nI v), .int (nI ((c_ / 16) / (cu_sd v))), .int (nI ((c_ % 16) / (cu_sd v)))]) (rest := []) S (mX1_whole l D k0 b1 b2 b3 b4 dN dZ Nm Pl Mk Th a v (c_ / 16 / cu_sd v) (c_ % 16 / cu_sd v) ha hv (Nat.lt_of_le_of_lt (Nat.div_le_self _ _) (by omega)) (Nat.lt_of_le_of_lt (Nat.div_le_self _ _) (by omega))) (cwX1_whole hts ⟨Nat.le_of_ble_eq_true rfl, Nat.le_of_ble_eq_true rfl⟩) (cu_preW (va_recv hK hP (ci := 1) (q0 := 0) rfl rfl) hK hP) rfl hl.1 rfl (Nat.le_of_ble_eq_true rfl) dX1_levelAt_35 (Nat.zero_le _) (Nat.zero_le _) ?_
          refine nb_top (y := nI (cu_wh (S0 a) v (cu_hn c_)).toNat) (by rw [cu_whc_wh hR ha hv hc]) ?_
          refine nb_if_eqB (tgt := 43) hx hb dX1_levelAt_38 (by decide) (fun c2 => ?_) (fun c2 => ?_)
          · refine lv_iinc (v := nI (v + 1)) (lv' := [(3, .int (nI (v + 1))), (4, .int (nI (cu_sd v))), (0, .ref k0), (1, .int (nI a)), (2, .int (nI c_))]) hx hb dX1_levelAt_43 hl (k := 4) rfl (nI_1 _) (by decide) rfl (fun ls hl => ?_)
            refine lv_goto (tgt := 2) hx hb dX1_levelAt_46 (by decide) ?_
            exact ih (v + 1) (by omega) (lt_s hno c2) (by omega) ls (lv_sub hl [2, 3, 4, 0] rfl)
          · refine lv_iload_n hx hb dX1_levelAt_41 rfl (lv_at hl 4 rfl) ?_
            exact kret 42 ls (nI v) dX1_levelAt_42 (by rw [cu_lev_eq (by omega) c2 hno])
  refine lv_iconst (v := nI 0) hx hb dX1_levelAt_0 (by decide) ?_
  refine lv_istore_n (lv' := [(3, .int (nI 0)), (0, .ref k0), (1, .int (nI a)), (2, .int (nI c_))]) hx hb dX1_levelAt_1 rfl hl (by decide) rfl (fun ls hl => ?_)
  exact loop 5 0 (Nat.zero_le _) (fun k q => absurd q (Nat.not_lt_zero _)) (by omega) ls (lv_sub hl [1, 2, 3, 0] rfl)
set_option maxHeartbeats 4000000 in
set_option maxRecDepth 100000 in
/-- firstNumber -/
theorem mX1_firstNumber (l : Launch) (D : va_G) (k0 b1 b2 b3 b4 : Nat) (dN dZ : ClassId) (Nm Pl : Nat → Nat) (Mk Th : Nat → Bool) (S0 : Nat → Nat → Bool) (hNm : ∀ q, Nm q < 256) (hPl : ∀ q, Pl q < 256) (hR : cu_RM Nm Pl Mk S0) (c_ v : Nat) (hc : c_ < 256) (hv : v ≤ 4) : MetR l yX1_firstNumber cX1_firstNumber 6 .int rX1_firstNumber [.ref k0, .int (nI c_), .int (nI v)] (bW D (tM dN dZ) (wM k0 b1 b2 b3 b4 dN dZ Nm Pl Mk Th)) (nI (cu_hn c_ / cu_sz v * cu_sz v)) := by
  refine metR_of (by decide) (Nat.le_of_ble_eq_true rfl) (nb_narI _) ?_
  intro p e s m args below meth c H Q S hH hB kret ls hl
  have S : CallFix p m c cX1_firstNumber 6 s args lw_all RX1 := S
  have hx := S.1
  have hb := S.2.1
  have hts := S.2.2.2.2
  obtain ⟨hP, hK⟩ := hB
  rw [hH] at hP
  have hl : lv_has ls 6 [(0, .ref k0), (1, .int (nI c_)), (2, .int (nI v))] := hl
  have hs := cu_sd_pow hv
  have htg : cu_hn c_ / cu_sz v * cu_sz v ≤ 255 := by have := Nat.div_mul_le_self (cu_hn c_) (cu_sz v); have := (cu_hp_hn c_ hc).2; omega
  have loop : ∀ (n : Nat) (k g : Nat), k ≤ 256 → cu_hn c_ / cu_sz v * cu_sz v ≤ g → g ≤ 255 → (∀ b, b < k → cu_isq b v (c_ / 16 / cu_sd v) (c_ % 16 / cu_sd v) = true → g ≤ cu_hn b) → 256 - k < n → ∀ ls : Array Slot, lv_has ls 6 [(0, .ref k0), (1, .int (nI c_)), (2, .int (nI v)), (3, .int (nI (cu_sd v))), (4, .int (nI g)), (5, .int (nI k))] → W p l e rX1_firstNumber s m args below meth c H [] 0 0 Q (F0 m 16 ls []) := by
    intro n
    induction n with
    | zero => intro k g hk h1 h2 h3 hm; exact absurd hm (Nat.not_lt_zero _)
    | succ n ih =>
      intro k g hk h1 h2 h3 hm ls hl
      refine lv_iload hx hb dX1_firstNumber_16 (lv_at hl 5 rfl) ?_
      refine lv_sipush (v := nI 256) hx hb dX1_firstNumber_18 (by decide) ?_
      refine nb_icmp_ge (tgt := 77) hx hb dX1_firstNumber_21 (by decide) (by omega) (by omega) (fun c0 => ?_) (fun c0 => ?_)
      · refine lv_iload hx hb dX1_firstNumber_77 (lv_at hl 4 rfl) ?_
        exact kret 79 ls (nI g) dX1_firstNumber_79 (by rw [cu_least hv hc h1 (fun b q => h3 b (by omega))])
      · refine lv_iload_n hx hb dX1_firstNumber_24 rfl (lv_at hl 3 rfl) ?_
        refine nb_if_le (tgt := 71) hx hb dX1_firstNumber_25 (by decide) (by omega) (fun c1 => ?_) (fun c1 => ?_)
        · exfalso; omega
        · refine lv_aload_n hx hb dX1_firstNumber_28 rfl (lv_at hl 0 rfl) ?_
          refine lv_iload hx hb dX1_firstNumber_29 (lv_at hl 5 rfl) ?_
          refine lv_iload_n hx hb dX1_firstNumber_31 rfl (lv_at hl 2 rfl) ?_
          refine lv_iload_n hx hb dX1_firstNumber_32 rfl (lv_at hl 1 rfl) ?_
          refine lv_bipush (v := nI 16) hx hb dX1_firstNumber_33 (by decide) ?_
          refine nb_idiv hx hb dX1_firstNumber_35 (by omega) (by omega) (by omega) ?_
          refine lv_iload_n hx hb dX1_firstNumber_36 rfl (lv_at hl 3 rfl) ?_
          refine nb_idiv hx hb dX1_firstNumber_37 (by omega) (by omega) (by omega) ?_
          refine lv_iload_n hx hb dX1_firstNumber_38 rfl (lv_at hl 1 rfl) ?_
          refine lv_bipush (v := nI 16) hx hb dX1_firstNumber_39 (by decide) ?_
          refine nb_irem hx hb dX1_firstNumber_41 (by omega) (by omega) (by omega) ?_
          refine lv_iload_n hx hb dX1_firstNumber_42 rfl (lv_at hl 3 rfl) ?_
          refine nb_idiv hx hb dX1_firstNumber_43 (by omega) (by omega) (by omega) ?_
          refine cu_rcall (As := [.int (nI k), .int (nI v), .int (nI ((c_ / 16) / (cu_sd v))), .int (nI ((c_ % 16) / (cu_sd v)))]) (rest := []) S (mX1_inSquare l k0 k v (c_ / 16 / cu_sd v) (c_ % 16 / cu_sd v) c0 hv (Nat.lt_of_le_of_lt (Nat.div_le_self _ _) (by omega)) (Nat.lt_of_le_of_lt (Nat.div_le_self _ _) (by omega))) (cwX1_inSquare hts ⟨Nat.le_of_ble_eq_true rfl, Nat.le_of_ble_eq_true rfl⟩) (cu_preP (va_recv hK hP (ci := 1) (q0 := 0) rfl rfl)) rfl hl.1 rfl (Nat.le_of_ble_eq_true rfl) dX1_firstNumber_44 (Nat.zero_le _) (Nat.zero_le _) ?_
          have hNk := hR.1 k c0
          refine nb_if_eqB (tgt := 71) hx hb dX1_firstNumber_47 (by decide) (fun c2 => ?_) (fun c2 => ?_)
          · refine lv_iinc (v := nI (k + 1)) (lv' := [(5, .int (nI (k + 1))), (0, .ref k0), (1, .int (nI c_)), (2, .int (nI v)), (3, .int (nI (cu_sd v))), (4, .int (nI g))]) hx hb dX1_firstNumber_71 hl (k := 5) rfl (nI_1 _) (by decide) rfl (fun ls hl => ?_)
            refine lv_goto (tgt := 16) hx hb dX1_firstNumber_74 (by decide) ?_
            exact ih (k + 1) g (by omega) h1 h2 (lt_s h3 (fun q => absurd (c2.symm.trans q) (by decide))) (by omega) ls (lv_sub hl [1, 2, 3, 4, 5, 0] rfl)
          · refine lv_aload_n hx hb dX1_firstNumber_50 rfl (lv_at hl 0 rfl) ?_
            refine gM_0 S hK hP dX1_firstNumber_51 ?_
            refine lv_iload hx hb dX1_firstNumber_54 (lv_at hl 5 rfl) ?_
            refine nb_iald hx hb hK hP 1 0 rfl rfl (by omega) (by decide) dX1_firstNumber_56 ?_
            have b_1 := hNm k
            refine lv_iload hx hb dX1_firstNumber_57 (lv_at hl 4 rfl) ?_
            refine nb_icmp_ge (tgt := 71) hx hb dX1_firstNumber_59 (by decide) (by omega) (by omega) (fun c3 => ?_) (fun c3 => ?_)
            · refine lv_iinc (v := nI (k + 1)) (lv' := [(5, .int (nI (k + 1))), (0, .ref k0), (1, .int (nI c_)), (2, .int (nI v)), (3, .int (nI (cu_sd v))), (4, .int (nI g))]) hx hb dX1_firstNumber_71 hl (k := 5) rfl (nI_1 _) (by decide) rfl (fun ls hl => ?_)
              refine lv_goto (tgt := 16) hx hb dX1_firstNumber_74 (by decide) ?_
              exact ih (k + 1) g (by omega) h1 h2 (lt_s h3 (fun q => by omega)) (by omega) ls (lv_sub hl [1, 2, 3, 4, 5, 0] rfl)
            · refine lv_aload_n hx hb dX1_firstNumber_62 rfl (lv_at hl 0 rfl) ?_
              refine gM_0 S hK hP dX1_firstNumber_63 ?_
              refine lv_iload hx hb dX1_firstNumber_66 (lv_at hl 5 rfl) ?_
              refine nb_iald hx hb hK hP 1 0 rfl rfl (by omega) (by decide) dX1_firstNumber_68 ?_
              have b_2 := hNm k
              refine lv_istore (lv' := [(4, .int (nI (Nm k))), (0, .ref k0), (1, .int (nI c_)), (2, .int (nI v)), (3, .int (nI (cu_sd v))), (5, .int (nI k))]) hx hb dX1_firstNumber_69 hl (by decide) rfl (fun ls hl => ?_)
              refine lv_iinc (v := nI (k + 1)) (lv' := [(5, .int (nI (k + 1))), (4, .int (nI (Nm k))), (0, .ref k0), (1, .int (nI c_)), (2, .int (nI v)), (3, .int (nI (cu_sd v)))]) hx hb dX1_firstNumber_71 hl (k := 5) rfl (nI_1 _) (by decide) rfl (fun ls hl => ?_)
              refine lv_goto (tgt := 16) hx hb dX1_firstNumber_74 (by decide) ?_
              exact ih (k + 1) (Nm k) (by omega) (by rw [hNk]; exact cu_least_le hv hc c0 c2) (by omega) (lt_s (fun b q1 q2 => Nat.le_trans (Nat.le_of_lt c3) (h3 b q1 q2)) (fun q => by omega)) (by omega) ls (lv_sub hl [2, 3, 4, 5, 1, 0] rfl)
  refine lv_bipush (v := nI 16) hx hb dX1_firstNumber_0 (by decide) ?_
  refine lv_iload_n hx hb dX1_firstNumber_2 rfl (lv_at hl 2 rfl) ?_
  refine lv_bipush (v := nI 7) hx hb dX1_firstNumber_3 (by decide) ?_
  refine nb_iand hx hb dX1_firstNumber_5 ?_
  refine nb_top (y := nI v) (by rw [cu_and7 v (by omega)]) ?_
  refine nb_ishr hx hb dX1_firstNumber_6 (by omega) (by omega) ?_
  refine nb_top (y := nI (cu_sd v)) (by rw [hs.1]) ?_
  refine lv_istore_n (lv' := [(3, .int (nI (cu_sd v))), (0, .ref k0), (1, .int (nI c_)), (2, .int (nI v))]) hx hb dX1_firstNumber_7 rfl hl (by decide) rfl (fun ls hl => ?_)
  refine lv_sipush (v := nI 255) hx hb dX1_firstNumber_8 (by decide) ?_
  refine lv_istore (lv' := [(4, .int (nI 255)), (3, .int (nI (cu_sd v))), (0, .ref k0), (1, .int (nI c_)), (2, .int (nI v))]) hx hb dX1_firstNumber_11 hl (by decide) rfl (fun ls hl => ?_)
  refine lv_iconst (v := nI 0) hx hb dX1_firstNumber_13 (by decide) ?_
  refine lv_istore (lv' := [(5, .int (nI 0)), (4, .int (nI 255)), (3, .int (nI (cu_sd v))), (0, .ref k0), (1, .int (nI c_)), (2, .int (nI v))]) hx hb dX1_firstNumber_14 hl (by decide) rfl (fun ls hl => ?_)
  exact loop 257 0 255 (Nat.zero_le _) htg (Nat.le_refl _) (fun b q => absurd q (Nat.not_lt_zero _)) (by omega) ls (lv_sub hl [3, 4, 5, 2, 1, 0] rfl)
set_option maxHeartbeats 4000000 in
set_option maxRecDepth 100000 in
/-- pieces of the model -/
theorem mX1_pieces (l : Launch) (D : va_G) (k0 b1 b2 b3 b4 : Nat) (dN dZ : ClassId) (Nm Pl : Nat → Nat) (Mk Th : Nat → Bool) (S0 : Nat → Nat → Bool) (hNm : ∀ q, Nm q < 256) (hPl : ∀ q, Pl q < 256) (hR : cu_RM Nm Pl Mk S0) (sv : Int32) : MetR l yX1_pieces cX1_pieces 5 .int rX1_pieces [.ref k0, .int sv] (bW D (tM dN dZ) (wM k0 b1 b2 b3 b4 dN dZ Nm Pl Mk Th)) (cu_on (fun a => nI (fb_ct (cu_ps (S0 a)) 256)) sv) := by
  refine metR_of (by decide) (Nat.le_of_ble_eq_true rfl) (nb_narI _) ?_
  intro p e s m args below meth c H Q S hH hB kret ls hl
  have S : CallFix p m c cX1_pieces 5 s args lw_all RX1 := S
  have hx := S.1
  have hb := S.2.1
  have hts := S.2.2.2.2
  obtain ⟨hP, hK⟩ := hB
  rw [hH] at hP
  have hl : lv_has ls 5 [(0, .ref k0), (1, .int sv)] := hl
  refine lv_aload_n hx hb dX1_pieces_0 rfl (lv_at hl 0 rfl) ?_
  refine lv_iload_n hx hb dX1_pieces_1 rfl (lv_at hl 1 rfl) ?_
  refine cu_rcall (As := [.int sv]) (rest := []) S (mX1_isSet l k0 sv) (cwX1_isSet hts ⟨Nat.le_of_ble_eq_true rfl, Nat.le_of_ble_eq_true rfl⟩) (cu_preP (va_recv hK hP (ci := 1) (q0 := 0) rfl rfl)) rfl hl.1 rfl (Nat.le_of_ble_eq_true rfl) dX1_pieces_2 (Nat.zero_le _) (Nat.zero_le _) ?_
  refine nb_if_neB (tgt := 10) hx hb dX1_pieces_5 (by decide) (fun c1 => ?_) (fun c1 => ?_)
  · obtain ⟨a, ha, rfl⟩ := cu_ok_of c1
    have loop : ∀ (n : Nat) (k : Nat), k ≤ 256 → 256 - k < n → ∀ ls : Array Slot, lv_has ls 5 [(0, .ref k0), (1, .int (nI a)), (2, .int (nI (fb_ct (cu_ps (S0 a)) k))), (3, .int (nI k))] → W p l e rX1_pieces s m args below meth c H [] 0 0 Q (F0 m 14 ls []) := by
      intro n
      induction n with
      | zero => intro k hk hm; exact absurd hm (Nat.not_lt_zero _)
      | succ n ih =>
        intro k hk hm ls hl
        refine lv_iload_n hx hb dX1_pieces_14 rfl (lv_at hl 3 rfl) ?_
        refine lv_sipush (v := nI 256) hx hb dX1_pieces_15 (by decide) ?_
        refine nb_icmp_ge (tgt := 79) hx hb dX1_pieces_18 (by decide) (by omega) (by omega) (fun c2 => ?_) (fun c2 => ?_)
        · refine lv_iload_n hx hb dX1_pieces_79 rfl (lv_at hl 2 rfl) ?_
          exact kret 80 ls (nI (fb_ct (cu_ps (S0 a)) k)) dX1_pieces_80 (by rw [cu_on_ok ha, show k = 256 by omega])
        · have hat := hR.at ha c2
          have hp1 := hPl k
          refine lv_aload_n hx hb dX1_pieces_21 rfl (lv_at hl 0 rfl) ?_
          refine gM_2 S hK hP dX1_pieces_22 ?_
          refine lv_sipush (v := nI 256) hx hb dX1_pieces_25 (by decide) ?_
          refine lv_iload_n hx hb dX1_pieces_28 rfl (lv_at hl 1 rfl) ?_
          refine nb_imul hx hb dX1_pieces_29 ?_
          refine lv_aload_n hx hb dX1_pieces_30 rfl (lv_at hl 0 rfl) ?_
          refine gM_1 S hK hP dX1_pieces_31 ?_
          refine lv_iload_n hx hb dX1_pieces_34 rfl (lv_at hl 3 rfl) ?_
          refine nb_iald hx hb hK hP 2 0 rfl rfl (by omega) (by decide) dX1_pieces_35 ?_
          have b_1 := hPl k
          refine nb_iadd hx hb dX1_pieces_36 ?_
          refine nb_zald hx hb hK hP 3 1 rfl rfl (by omega) (by decide) dX1_pieces_37 ?_
          refine nb_if_eqB (tgt := 73) hx hb dX1_pieces_38 (by decide) (fun c3 => ?_) (fun c3 => ?_)
          · rw [hat.1] at c3
            refine lv_iinc (v := nI (k + 1)) (lv' := [(3, .int (nI (k + 1))), (0, .ref k0), (1, .int (nI a)), (2, .int (nI (fb_ct (cu_ps (S0 a)) k)))]) hx hb dX1_pieces_73 hl (k := 3) rfl (nI_1 _) (by decide) rfl (fun ls hl => ?_)
            refine lv_goto (tgt := 14) hx hb dX1_pieces_76 (by decide) ?_
            have e2 : fb_ct (cu_ps (S0 a)) (k + 1) = fb_ct (cu_ps (S0 a)) k := cu_ct_no (cu_ps_S c3)
            rw [← e2] at hl
            exact ih (k + 1) (by omega) (by omega) ls (lv_sub hl [1, 2, 3, 0] rfl)
          · rw [hat.1] at c3
            refine lv_aload_n hx hb dX1_pieces_41 rfl (lv_at hl 0 rfl) ?_
            refine lv_iload_n hx hb dX1_pieces_42 rfl (lv_at hl 1 rfl) ?_
            refine lv_aload_n hx hb dX1_pieces_43 rfl (lv_at hl 0 rfl) ?_
            refine gM_1 S hK hP dX1_pieces_44 ?_
            refine lv_iload_n hx hb dX1_pieces_47 rfl (lv_at hl 3 rfl) ?_
            refine nb_iald hx hb hK hP 2 0 rfl rfl (by omega) (by decide) dX1_pieces_48 ?_
            have b_2 := hPl k
            refine cu_rcall (As := [.int (nI a), .int (nI (Pl k))]) (rest := []) S (mX1_levelAt l D k0 b1 b2 b3 b4 dN dZ Nm Pl Mk Th S0 hNm hPl hR a (Pl k) ha hat.2.2) (cwX1_levelAt hts ⟨Nat.le_of_ble_eq_true rfl, Nat.le_of_ble_eq_true rfl⟩) (cu_preW (va_recv hK hP (ci := 1) (q0 := 0) rfl rfl) hK hP) rfl hl.1 rfl (Nat.le_of_ble_eq_true rfl) dX1_pieces_49 (Nat.zero_le _) (Nat.zero_le _) ?_
            refine nb_top (y := nI (cu_lev (S0 a) k)) (by rw [hat.2.1]) ?_
            refine lv_istore (lv' := [(4, .int (nI (cu_lev (S0 a) k))), (0, .ref k0), (1, .int (nI a)), (2, .int (nI (fb_ct (cu_ps (S0 a)) k))), (3, .int (nI k))]) hx hb dX1_pieces_52 hl (by decide) rfl (fun ls hl => ?_)
            refine lv_aload_n hx hb dX1_pieces_54 rfl (lv_at hl 1 rfl) ?_
            refine lv_aload_n hx hb dX1_pieces_55 rfl (lv_at hl 1 rfl) ?_
            refine gM_1 S hK hP dX1_pieces_56 ?_
            refine lv_iload_n hx hb dX1_pieces_59 rfl (lv_at hl 4 rfl) ?_
            refine nb_iald hx hb hK hP 2 0 rfl rfl (by omega) (by decide) dX1_pieces_60 ?_
            have b_3 := hPl k
            refine lv_iload hx hb dX1_pieces_61 (lv_at hl 0 rfl) ?_
            refine cu_rcall (As := [.int (nI (Pl k)), .int (nI (cu_lev (S0 a) k))]) (rest := []) S (mX1_firstNumber l D k0 b1 b2 b3 b4 dN dZ Nm Pl Mk Th S0 hNm hPl hR (Pl k) (cu_lev (S0 a) k) hat.2.2 (cu_lev_le _ _)) (cwX1_firstNumber hts ⟨Nat.le_of_ble_eq_true rfl, Nat.le_of_ble_eq_true rfl⟩) (cu_preW (va_recv hK hP (ci := 1) (q0 := 0) rfl rfl) hK hP) rfl hl.1 rfl (Nat.le_of_ble_eq_true rfl) dX1_pieces_63 (Nat.zero_le _) (Nat.zero_le _) ?_
            refine nb_top (y := nI (k / cu_sz (cu_lev (S0 a) k) * cu_sz (cu_lev (S0 a) k))) (by rw [hat.2.1]) ?_
            have hdm := Nat.div_mul_le_self k (cu_sz (cu_lev (S0 a) k))
            refine lv_iload_n hx hb dX1_pieces_66 rfl (lv_at hl 4 rfl) ?_
            refine nb_icmp_ne (tgt := 73) hx hb dX1_pieces_67 (by decide) (by omega) (by omega) (fun c4 => ?_) (fun c4 => ?_)
            · refine lv_iinc (v := nI (k + 1)) (lv' := [(3, .int (nI (k + 1))), (4, .int (nI (cu_lev (S0 a) k))), (0, .ref k0), (1, .int (nI a)), (2, .int (nI (fb_ct (cu_ps (S0 a)) k)))]) hx hb dX1_pieces_73 hl (k := 4) rfl (nI_1 _) (by decide) rfl (fun ls hl => ?_)
              refine lv_goto (tgt := 14) hx hb dX1_pieces_76 (by decide) ?_
              have e2 : fb_ct (cu_ps (S0 a)) (k + 1) = fb_ct (cu_ps (S0 a)) k := cu_ct_no (cu_ps_no c4)
              rw [← e2] at hl
              exact ih (k + 1) (by omega) (by omega) ls (lv_sub hl [2, 3, 4, 0] rfl)
            · refine lv_iinc (v := nI ((fb_ct (cu_ps (S0 a)) k) + 1)) (lv' := [(2, .int (nI ((fb_ct (cu_ps (S0 a)) k) + 1))), (4, .int (nI (cu_lev (S0 a) k))), (0, .ref k0), (1, .int (nI a)), (3, .int (nI k))]) hx hb dX1_pieces_70 hl (k := 3) rfl (nI_1 _) (by decide) rfl (fun ls hl => ?_)
              refine lv_iinc (v := nI (k + 1)) (lv' := [(3, .int (nI (k + 1))), (2, .int (nI ((fb_ct (cu_ps (S0 a)) k) + 1))), (4, .int (nI (cu_lev (S0 a) k))), (0, .ref k0), (1, .int (nI a))]) hx hb dX1_pieces_73 hl (k := 4) rfl (nI_1 _) (by decide) rfl (fun ls hl => ?_)
              refine lv_goto (tgt := 14) hx hb dX1_pieces_76 (by decide) ?_
              have e2 : fb_ct (cu_ps (S0 a)) (k + 1) = fb_ct (cu_ps (S0 a)) k + 1 := cu_ct_yes (cu_ps_yes c3 c4)
              rw [← e2] at hl
              exact ih (k + 1) (by omega) (by omega) ls (lv_sub hl [3, 4, 1, 0] rfl)
    refine lv_iconst (v := nI 0) hx hb dX1_pieces_10 (by decide) ?_
    refine lv_istore_n (lv' := [(2, .int (nI 0)), (0, .ref k0), (1, .int (nI a))]) hx hb dX1_pieces_11 rfl hl (by decide) rfl (fun ls hl => ?_)
    refine lv_iconst (v := nI 0) hx hb dX1_pieces_12 (by decide) ?_
    refine lv_istore_n (lv' := [(3, .int (nI 0)), (2, .int (nI 0)), (0, .ref k0), (1, .int (nI a))]) hx hb dX1_pieces_13 rfl hl (by decide) rfl (fun ls hl => ?_)
    exact loop 257 0 (Nat.zero_le _) (by omega) ls (lv_sub hl [2, 3, 1, 0] rfl)
  · refine lv_iconst (v := (-1)) hx hb dX1_pieces_8 (by decide) ?_
    exact kret 9 ls (-1) dX1_pieces_9 (by rw [cu_on_no c1])
set_option maxHeartbeats 4000000 in
set_option maxRecDepth 100000 in
/-- piece of the model -/
theorem mX1_piece (l : Launch) (D : va_G) (k0 b1 b2 b3 b4 : Nat) (dN dZ : ClassId) (Nm Pl : Nat → Nat) (Mk Th : Nat → Bool) (S0 : Nat → Nat → Bool) (hNm : ∀ q, Nm q < 256) (hPl : ∀ q, Pl q < 256) (hR : cu_RM Nm Pl Mk S0) (sv kv : Int32) : MetR l yX1_piece cX1_piece 6 .int rX1_piece [.ref k0, .int sv, .int kv] (bW D (tM dN dZ) (wM k0 b1 b2 b3 b4 dN dZ Nm Pl Mk Th)) (cu_on (fun a => cu_sel (cu_ps (S0 a)) (fun n => nI (256 * cu_lev (S0 a) n + n)) kv) sv) := by
  refine metR_of (by decide) (Nat.le_of_ble_eq_true rfl) (nb_narI _) ?_
  intro p e s m args below meth c H Q S hH hB kret ls hl
  have S : CallFix p m c cX1_piece 6 s args lw_all RX1 := S
  have hx := S.1
  have hb := S.2.1
  have hts := S.2.2.2.2
  obtain ⟨hP, hK⟩ := hB
  rw [hH] at hP
  have hl : lv_has ls 6 [(0, .ref k0), (1, .int sv), (2, .int kv)] := hl
  refine lv_aload_n hx hb dX1_piece_0 rfl (lv_at hl 0 rfl) ?_
  refine lv_iload_n hx hb dX1_piece_1 rfl (lv_at hl 1 rfl) ?_
  refine cu_rcall (As := [.int sv]) (rest := []) S (mX1_isSet l k0 sv) (cwX1_isSet hts ⟨Nat.le_of_ble_eq_true rfl, Nat.le_of_ble_eq_true rfl⟩) (cu_preP (va_recv hK hP (ci := 1) (q0 := 0) rfl rfl)) rfl hl.1 rfl (Nat.le_of_ble_eq_true rfl) dX1_piece_2 (Nat.zero_le _) (Nat.zero_le _) ?_
  refine nb_if_neB (tgt := 10) hx hb dX1_piece_5 (by decide) (fun c1 => ?_) (fun c1 => ?_)
  · obtain ⟨a, ha, rfl⟩ := cu_ok_of c1
    have loop : ∀ (n : Nat) (k : Nat), k ≤ 256 → (∀ n, n < k → cu_ps (S0 a) n = true → nI (fb_ct (cu_ps (S0 a)) n) ≠ kv) → 256 - k < n → ∀ ls : Array Slot, lv_has ls 6 [(0, .ref k0), (1, .int (nI a)), (2, .int kv), (3, .int (nI (fb_ct (cu_ps (S0 a)) k))), (4, .int (nI k))] → W p l e rX1_piece s m args below meth c H [] 0 0 Q (F0 m 15 ls []) := by
      intro n
      induction n with
      | zero => intro k hk hno hm; exact absurd hm (Nat.not_lt_zero _)
      | succ n ih =>
        intro k hk hno hm ls hl
        refine lv_iload hx hb dX1_piece_15 (lv_at hl 4 rfl) ?_
        refine lv_sipush (v := nI 256) hx hb dX1_piece_17 (by decide) ?_
        refine nb_icmp_ge (tgt := 100) hx hb dX1_piece_20 (by decide) (by omega) (by omega) (fun c2 => ?_) (fun c2 => ?_)
        · refine lv_bipush (v := (-3)) hx hb dX1_piece_100 (by decide) ?_
          exact kret 102 ls (-3) dX1_piece_102 (by rw [cu_on_ok ha, cu_sel_no (fun n q => hno n (by omega))])
        · have hat := hR.at ha c2
          have hp1 := hPl k
          refine lv_aload_n hx hb dX1_piece_23 rfl (lv_at hl 0 rfl) ?_
          refine gM_2 S hK hP dX1_piece_24 ?_
          refine lv_sipush (v := nI 256) hx hb dX1_piece_27 (by decide) ?_
          refine lv_iload_n hx hb dX1_piece_30 rfl (lv_at hl 1 rfl) ?_
          refine nb_imul hx hb dX1_piece_31 ?_
          refine lv_aload_n hx hb dX1_piece_32 rfl (lv_at hl 0 rfl) ?_
          refine gM_1 S hK hP dX1_piece_33 ?_
          refine lv_iload hx hb dX1_piece_36 (lv_at hl 4 rfl) ?_
          refine nb_iald hx hb hK hP 2 0 rfl rfl (by omega) (by decide) dX1_piece_38 ?_
          have b_1 := hPl k
          refine nb_iadd hx hb dX1_piece_39 ?_
          refine nb_zald hx hb hK hP 3 1 rfl rfl (by omega) (by decide) dX1_piece_40 ?_
          refine nb_if_eqB (tgt := 94) hx hb dX1_piece_41 (by decide) (fun c3 => ?_) (fun c3 => ?_)
          · rw [hat.1] at c3
            have hps : cu_ps (S0 a) k = false := cu_ps_S c3
            refine lv_iinc (v := nI (k + 1)) (lv' := [(4, .int (nI (k + 1))), (0, .ref k0), (1, .int (nI a)), (2, .int kv), (3, .int (nI (fb_ct (cu_ps (S0 a)) k)))]) hx hb dX1_piece_94 hl (k := 4) rfl (nI_1 _) (by decide) rfl (fun ls hl => ?_)
            refine lv_goto (tgt := 15) hx hb dX1_piece_97 (by decide) ?_
            have e2 : fb_ct (cu_ps (S0 a)) (k + 1) = fb_ct (cu_ps (S0 a)) k := cu_ct_no hps
            rw [← e2] at hl
            exact ih (k + 1) (by omega) (lt_s hno (fun q => absurd (hps.symm.trans q) (by decide))) (by omega) ls (lv_sub hl [1, 2, 3, 4, 0] rfl)
          · rw [hat.1] at c3
            refine lv_aload_n hx hb dX1_piece_44 rfl (lv_at hl 0 rfl) ?_
            refine lv_iload_n hx hb dX1_piece_45 rfl (lv_at hl 1 rfl) ?_
            refine lv_aload_n hx hb dX1_piece_46 rfl (lv_at hl 0 rfl) ?_
            refine gM_1 S hK hP dX1_piece_47 ?_
            refine lv_iload hx hb dX1_piece_50 (lv_at hl 4 rfl) ?_
            refine nb_iald hx hb hK hP 2 0 rfl rfl (by omega) (by decide) dX1_piece_52 ?_
            have b_2 := hPl k
            refine cu_rcall (As := [.int (nI a), .int (nI (Pl k))]) (rest := []) S (mX1_levelAt l D k0 b1 b2 b3 b4 dN dZ Nm Pl Mk Th S0 hNm hPl hR a (Pl k) ha hat.2.2) (cwX1_levelAt hts ⟨Nat.le_of_ble_eq_true rfl, Nat.le_of_ble_eq_true rfl⟩) (cu_preW (va_recv hK hP (ci := 1) (q0 := 0) rfl rfl) hK hP) rfl hl.1 rfl (Nat.le_of_ble_eq_true rfl) dX1_piece_53 (Nat.zero_le _) (Nat.zero_le _) ?_
            refine nb_top (y := nI (cu_lev (S0 a) k)) (by rw [hat.2.1]) ?_
            refine lv_istore (lv' := [(5, .int (nI (cu_lev (S0 a) k))), (0, .ref k0), (1, .int (nI a)), (2, .int kv), (3, .int (nI (fb_ct (cu_ps (S0 a)) k))), (4, .int (nI k))]) hx hb dX1_piece_56 hl (by decide) rfl (fun ls hl => ?_)
            refine lv_aload_n hx hb dX1_piece_58 rfl (lv_at hl 1 rfl) ?_
            refine lv_aload_n hx hb dX1_piece_59 rfl (lv_at hl 1 rfl) ?_
            refine gM_1 S hK hP dX1_piece_60 ?_
            refine lv_iload hx hb dX1_piece_63 (lv_at hl 5 rfl) ?_
            refine nb_iald hx hb hK hP 2 0 rfl rfl (by omega) (by decide) dX1_piece_65 ?_
            have b_3 := hPl k
            refine lv_iload hx hb dX1_piece_66 (lv_at hl 0 rfl) ?_
            refine cu_rcall (As := [.int (nI (Pl k)), .int (nI (cu_lev (S0 a) k))]) (rest := []) S (mX1_firstNumber l D k0 b1 b2 b3 b4 dN dZ Nm Pl Mk Th S0 hNm hPl hR (Pl k) (cu_lev (S0 a) k) hat.2.2 (cu_lev_le _ _)) (cwX1_firstNumber hts ⟨Nat.le_of_ble_eq_true rfl, Nat.le_of_ble_eq_true rfl⟩) (cu_preW (va_recv hK hP (ci := 1) (q0 := 0) rfl rfl) hK hP) rfl hl.1 rfl (Nat.le_of_ble_eq_true rfl) dX1_piece_68 (Nat.zero_le _) (Nat.zero_le _) ?_
            refine nb_top (y := nI (k / cu_sz (cu_lev (S0 a) k) * cu_sz (cu_lev (S0 a) k))) (by rw [hat.2.1]) ?_
            have hdm := Nat.div_mul_le_self k (cu_sz (cu_lev (S0 a) k))
            refine lv_iload hx hb dX1_piece_71 (lv_at hl 5 rfl) ?_
            refine nb_icmp_ne (tgt := 94) hx hb dX1_piece_73 (by decide) (by omega) (by omega) (fun c4 => ?_) (fun c4 => ?_)
            · have hps : cu_ps (S0 a) k = false := cu_ps_no c4
              refine lv_iinc (v := nI (k + 1)) (lv' := [(4, .int (nI (k + 1))), (5, .int (nI (cu_lev (S0 a) k))), (0, .ref k0), (1, .int (nI a)), (2, .int kv), (3, .int (nI (fb_ct (cu_ps (S0 a)) k)))]) hx hb dX1_piece_94 hl (k := 5) rfl (nI_1 _) (by decide) rfl (fun ls hl => ?_)
              refine lv_goto (tgt := 15) hx hb dX1_piece_97 (by decide) ?_
              have e2 : fb_ct (cu_ps (S0 a)) (k + 1) = fb_ct (cu_ps (S0 a)) k := cu_ct_no hps
              rw [← e2] at hl
              exact ih (k + 1) (by omega) (lt_s hno (fun q => absurd (hps.symm.trans q) (by decide))) (by omega) ls (lv_sub hl [2, 3, 4, 5, 0] rfl)
            · have hps : cu_ps (S0 a) k = true := cu_ps_yes c3 c4
              refine lv_iload_n hx hb dX1_piece_76 rfl (lv_at hl 4 rfl) ?_
              refine lv_iload_n hx hb dX1_piece_77 rfl (lv_at hl 3 rfl) ?_
              refine lv_icmp_ne (tgt := 91) hx hb dX1_piece_78 (by decide) (fun c5 => ?_) (fun c5 => ?_)
              · refine lv_iinc (v := nI ((fb_ct (cu_ps (S0 a)) k) + 1)) (lv' := [(3, .int (nI ((fb_ct (cu_ps (S0 a)) k) + 1))), (5, .int (nI (cu_lev (S0 a) k))), (0, .ref k0), (1, .int (nI a)), (2, .int kv), (4, .int (nI k))]) hx hb dX1_piece_91 hl (k := 4) rfl (nI_1 _) (by decide) rfl (fun ls hl => ?_)
                refine lv_iinc (v := nI (k + 1)) (lv' := [(4, .int (nI (k + 1))), (3, .int (nI ((fb_ct (cu_ps (S0 a)) k) + 1))), (5, .int (nI (cu_lev (S0 a) k))), (0, .ref k0), (1, .int (nI a)), (2, .int kv)]) hx hb dX1_piece_94 hl (k := 5) rfl (nI_1 _) (by decide) rfl (fun ls hl => ?_)
                refine lv_goto (tgt := 15) hx hb dX1_piece_97 (by decide) ?_
                have e2 : fb_ct (cu_ps (S0 a)) (k + 1) = fb_ct (cu_ps (S0 a)) k + 1 := cu_ct_yes hps
                rw [← e2] at hl
                exact ih (k + 1) (by omega) (lt_s hno (fun q => c5)) (by omega) ls (lv_sub hl [3, 4, 5, 1, 0] rfl)
              · refine lv_sipush (v := nI 256) hx hb dX1_piece_81 (by decide) ?_
                refine lv_iload hx hb dX1_piece_84 (lv_at hl 0 rfl) ?_
                refine nb_imul hx hb dX1_piece_86 ?_
                refine lv_iload hx hb dX1_piece_87 (lv_at hl 5 rfl) ?_
                refine nb_iadd hx hb dX1_piece_89 ?_
                exact kret 90 ls (nI ((256 * (cu_lev (S0 a) k)) + k)) dX1_piece_90 (by rw [cu_on_ok ha, cu_sel_at (n := k) c2 hps c5])
    refine lv_iconst (v := nI 0) hx hb dX1_piece_10 (by decide) ?_
    refine lv_istore_n (lv' := [(3, .int (nI 0)), (0, .ref k0), (1, .int (nI a)), (2, .int kv)]) hx hb dX1_piece_11 rfl hl (by decide) rfl (fun ls hl => ?_)
    refine lv_iconst (v := nI 0) hx hb dX1_piece_12 (by decide) ?_
    refine lv_istore (lv' := [(4, .int (nI 0)), (3, .int (nI 0)), (0, .ref k0), (1, .int (nI a)), (2, .int kv)]) hx hb dX1_piece_13 hl (by decide) rfl (fun ls hl => ?_)
    exact loop 257 0 (Nat.zero_le _) (fun n q => absurd q (Nat.not_lt_zero _)) (by omega) ls (lv_sub hl [2, 3, 4, 1, 0] rfl)
  · refine lv_iconst (v := (-1)) hx hb dX1_piece_8 (by decide) ?_
    exact kret 9 ls (-1) dX1_piece_9 (by rw [cu_on_no c1])
end
section
set_option maxHeartbeats 4000000 in
set_option maxRecDepth 100000 in
/-- touched of the model -/
theorem mX1_touched (l : Launch) (D : va_G) (k0 b1 b2 b3 b4 : Nat) (dN dZ : ClassId) (Nm Pl : Nat → Nat) (Mk Th : Nat → Bool) (S0 : Nat → Nat → Bool) (hNm : ∀ q, Nm q < 256) (hPl : ∀ q, Pl q < 256) (hR : cu_RM Nm Pl Mk S0) (hbig : ∀ a, a < 4 → ∀ n, 256 ≤ n → S0 a n = false) (sv lv : Int32) : MetR l yX1_touched cX1_touched 7 .int rX1_touched [.ref k0, .int sv, .int lv] (bW D (tM dN dZ) (wM k0 b1 b2 b3 b4 dN dZ Nm Pl Mk Th)) (cu_on (fun a => cu_lv (fun v => nI (fb_ct (cu_fb (S0 a) (cu_sz v)) 256)) lv) sv) := by
  refine metR_of (by decide) (Nat.le_of_ble_eq_true rfl) (nb_narI _) ?_
  intro p e s m args below meth c H Q S hH hB kret ls hl
  have S : CallFix p m c cX1_touched 7 s args lw_all RX1 := S
  have hx := S.1
  have hb := S.2.1
  have hts := S.2.2.2.2
  obtain ⟨hP, hK⟩ := hB
  rw [hH] at hP
  have hl : lv_has ls 7 [(0, .ref k0), (1, .int sv), (2, .int lv)] := hl
  have k17 : cu_on (fun a => cu_lv (fun v => nI (fb_ct (cu_fb (S0 a) (cu_sz v)) 256)) lv) sv = -1 → ∀ ls : Array Slot, W p l e rX1_touched s m args below meth c H [] 0 0 Q (F0 m 17 ls []) := by
    intro hq ls
    refine lv_iconst (v := (-1)) hx hb dX1_touched_17 (by decide) ?_
    exact kret 18 ls (-1) dX1_touched_18 (by rw [hq])
  refine lv_aload_n hx hb dX1_touched_0 rfl (lv_at hl 0 rfl) ?_
  refine lv_iload_n hx hb dX1_touched_1 rfl (lv_at hl 1 rfl) ?_
  refine cu_rcall (As := [.int sv]) (rest := []) S (mX1_isSet l k0 sv) (cwX1_isSet hts ⟨Nat.le_of_ble_eq_true rfl, Nat.le_of_ble_eq_true rfl⟩) (cu_preP (va_recv hK hP (ci := 1) (q0 := 0) rfl rfl)) rfl hl.1 rfl (Nat.le_of_ble_eq_true rfl) dX1_touched_2 (Nat.zero_le _) (Nat.zero_le _) ?_
  refine nb_if_eqB (tgt := 17) hx hb dX1_touched_5 (by decide) (fun c1 => ?_) (fun c1 => ?_)
  · exact k17 (cu_on_no c1) ls
  · obtain ⟨a, ha, rfl⟩ := cu_ok_of c1
    refine lv_iload_n hx hb dX1_touched_8 rfl (lv_at hl 2 rfl) ?_
    refine lv_if_lt (tgt := 17) hx hb dX1_touched_9 (by decide) (fun c2 => ?_) (fun c2 => ?_)
    · exact k17 (by rw [cu_on_ok ha, cu_lv, if_neg (fun q => q.1 c2)]) ls
    · refine lv_iload_n hx hb dX1_touched_12 rfl (lv_at hl 2 rfl) ?_
      refine lv_iconst (v := nI 4) hx hb dX1_touched_13 (by decide) ?_
      refine lv_icmp_le (tgt := 19) hx hb dX1_touched_14 (by decide) (fun c3 => ?_) (fun c3 => ?_)
      · obtain ⟨v, hv, rfl⟩ := cu_of_to (n := 4) (by omega) c2 (cu_le_nlt c3)
        have hs := (cu_sd_sh hv).2.2
        have loop : ∀ (n : Nat) (u_ : Nat), u_ ≤ 2 ^ v → 2 ^ v - u_ < n → ∀ ls : Array Slot, lv_has ls 7 [(0, .ref k0), (1, .int (nI a)), (2, .int (nI v)), (3, .int (nI (2 ^ v))), (4, .int (nI (fb_sm (fun u => fb_ct (fun w => cu_tb (S0 a) (cu_sz v) (cu_blk v u w)) (2 ^ v)) u_))), (5, .int (nI u_))] → W p l e rX1_touched s m args below meth c H [] 0 0 Q (F0 m 29 ls []) := by
          intro n
          induction n with
          | zero => intro u_ hu hm; exact absurd hm (Nat.not_lt_zero _)
          | succ n iho =>
            intro u_ hu hm ls hl
            refine lv_iload hx hb dX1_touched_29 (lv_at hl 5 rfl) ?_
            refine lv_iload_n hx hb dX1_touched_31 rfl (lv_at hl 3 rfl) ?_
            refine nb_icmp_ge (tgt := 72) hx hb dX1_touched_32 (by decide) (by omega) (by omega) (fun c4 => ?_) (fun c4 => ?_)
            · refine lv_iload hx hb dX1_touched_72 (lv_at hl 4 rfl) ?_
              exact kret 74 ls (nI (fb_sm (fun u => fb_ct (fun w => cu_tb (S0 a) (cu_sz v) (cu_blk v u w)) (2 ^ v)) u_)) dX1_touched_74 (by rw [cu_on_ok ha, cu_lv_ok hv, ← cu_tch_all hv (hbig a ha), show u_ = 2 ^ v by omega])
            · have inner : ∀ (n : Nat) (w_ : Nat), w_ ≤ 2 ^ v → 2 ^ v - w_ < n → ∀ ls : Array Slot, lv_has ls 7 [(0, .ref k0), (1, .int (nI a)), (2, .int (nI v)), (3, .int (nI (2 ^ v))), (4, .int (nI (fb_sm (fun u => fb_ct (fun w => cu_tb (S0 a) (cu_sz v) (cu_blk v u w)) (2 ^ v)) u_ + fb_ct (fun w => cu_tb (S0 a) (cu_sz v) (cu_blk v u_ w)) w_))), (5, .int (nI u_)), (6, .int (nI w_))] → W p l e rX1_touched s m args below meth c H [] 0 0 Q (F0 m 38 ls []) := by
                intro n
                induction n with
                | zero => intro w_ hw hm; exact absurd hm (Nat.not_lt_zero _)
                | succ n ih =>
                  intro w_ hw hm ls hl
                  refine lv_iload hx hb dX1_touched_38 (lv_at hl 6 rfl) ?_
                  refine lv_iload_n hx hb dX1_touched_40 rfl (lv_at hl 3 rfl) ?_
                  refine nb_icmp_ge (tgt := 66) hx hb dX1_touched_41 (by decide) (by omega) (by omega) (fun c5 => ?_) (fun c5 => ?_)
                  · have ew : w_ = 2 ^ v := by omega
                    subst ew
                    refine lv_iinc (v := nI (u_ + 1)) (lv' := [(5, .int (nI (u_ + 1))), (0, .ref k0), (1, .int (nI a)), (2, .int (nI v)), (3, .int (nI (2 ^ v))), (4, .int (nI (fb_sm (fun u => fb_ct (fun w => cu_tb (S0 a) (cu_sz v) (cu_blk v u w)) (2 ^ v)) u_ + fb_ct (fun w => cu_tb (S0 a) (cu_sz v) (cu_blk v u_ w)) (2 ^ v)))), (6, .int (nI (2 ^ v)))]) hx hb dX1_touched_66 hl (k := 5) rfl (nI_1 _) (by decide) rfl (fun ls hl => ?_)
                    refine lv_goto (tgt := 29) hx hb dX1_touched_69 (by decide) ?_
                    exact iho (u_ + 1) (by omega) (by omega) ls (lv_sub hl [1, 2, 3, 4, 5, 0] rfl)
                  · refine lv_aload_n hx hb dX1_touched_44 rfl (lv_at hl 0 rfl) ?_
                    refine lv_iload_n hx hb dX1_touched_45 rfl (lv_at hl 1 rfl) ?_
                    refine lv_iload_n hx hb dX1_touched_46 rfl (lv_at hl 2 rfl) ?_
                    refine lv_iload hx hb dX1_touched_47 (lv_at hl 5 rfl) ?_
                    refine lv_iload hx hb dX1_touched_49 (lv_at hl 6 rfl) ?_
                    refine cu_rcall (As := [.int (nI a), .int (nI v), .int (nI u_), .int (nI w_)]) (rest := []) S (mX1_some l D k0 b1 b2 b3 b4 dN dZ Nm Pl Mk Th a v u_ w_ ha hv (by omega) (by omega)) (cwX1_some hts ⟨Nat.le_of_ble_eq_true rfl, Nat.le_of_ble_eq_true rfl⟩) (cu_preW (va_recv hK hP (ci := 1) (q0 := 0) rfl rfl) hK hP) rfl hl.1 rfl (Nat.le_of_ble_eq_true rfl) dX1_touched_51 (Nat.zero_le _) (Nat.zero_le _) ?_
                    refine nb_top (y := nI (cu_tb (S0 a) (cu_sz v) (cu_blk v u_ w_)).toNat) (by rw [cu_smc_tb hR ha hv c4 c5]) ?_
                    refine nb_if_eqB (tgt := 60) hx hb dX1_touched_54 (by decide) (fun c6 => ?_) (fun c6 => ?_)
                    · refine lv_iinc (v := nI (w_ + 1)) (lv' := [(6, .int (nI (w_ + 1))), (0, .ref k0), (1, .int (nI a)), (2, .int (nI v)), (3, .int (nI (2 ^ v))), (4, .int (nI (fb_sm (fun u => fb_ct (fun w => cu_tb (S0 a) (cu_sz v) (cu_blk v u w)) (2 ^ v)) u_ + fb_ct (fun w => cu_tb (S0 a) (cu_sz v) (cu_blk v u_ w)) w_))), (5, .int (nI u_))]) hx hb dX1_touched_60 hl (k := 6) rfl (nI_1 _) (by decide) rfl (fun ls hl => ?_)
                      refine lv_goto (tgt := 38) hx hb dX1_touched_63 (by decide) ?_
                      have e2 : fb_ct (fun w => cu_tb (S0 a) (cu_sz v) (cu_blk v u_ w)) (w_ + 1) = fb_ct (fun w => cu_tb (S0 a) (cu_sz v) (cu_blk v u_ w)) w_ := cu_ct_no c6
                      have hl : lv_has ls 7 [(6, .int (nI (w_ + 1))), (0, .ref k0), (1, .int (nI a)), (2, .int (nI v)), (3, .int (nI (2 ^ v))), (4, .int (nI (fb_sm (fun u => fb_ct (fun w => cu_tb (S0 a) (cu_sz v) (cu_blk v u w)) (2 ^ v)) u_ + fb_ct (fun w => cu_tb (S0 a) (cu_sz v) (cu_blk v u_ w)) (w_ + 1)))), (5, .int (nI u_))] := by rw [e2]; exact hl
                      exact ih (w_ + 1) (by omega) (by omega) ls (lv_sub hl [1, 2, 3, 4, 5, 6, 0] rfl)
                    · refine lv_iinc (v := nI ((fb_sm (fun u => fb_ct (fun w => cu_tb (S0 a) (cu_sz v) (cu_blk v u w)) (2 ^ v)) u_ + fb_ct (fun w => cu_tb (S0 a) (cu_sz v) (cu_blk v u_ w)) w_) + 1)) (lv' := [(4, .int (nI ((fb_sm (fun u => fb_ct (fun w => cu_tb (S0 a) (cu_sz v) (cu_blk v u w)) (2 ^ v)) u_ + fb_ct (fun w => cu_tb (S0 a) (cu_sz v) (cu_blk v u_ w)) w_) + 1))), (0, .ref k0), (1, .int (nI a)), (2, .int (nI v)), (3, .int (nI (2 ^ v))), (5, .int (nI u_)), (6, .int (nI w_))]) hx hb dX1_touched_57 hl (k := 4) rfl (nI_1 _) (by decide) rfl (fun ls hl => ?_)
                      refine lv_iinc (v := nI (w_ + 1)) (lv' := [(6, .int (nI (w_ + 1))), (4, .int (nI ((fb_sm (fun u => fb_ct (fun w => cu_tb (S0 a) (cu_sz v) (cu_blk v u w)) (2 ^ v)) u_ + fb_ct (fun w => cu_tb (S0 a) (cu_sz v) (cu_blk v u_ w)) w_) + 1))), (0, .ref k0), (1, .int (nI a)), (2, .int (nI v)), (3, .int (nI (2 ^ v))), (5, .int (nI u_))]) hx hb dX1_touched_60 hl (k := 6) rfl (nI_1 _) (by decide) rfl (fun ls hl => ?_)
                      refine lv_goto (tgt := 38) hx hb dX1_touched_63 (by decide) ?_
                      have e2 : fb_ct (fun w => cu_tb (S0 a) (cu_sz v) (cu_blk v u_ w)) (w_ + 1) = fb_ct (fun w => cu_tb (S0 a) (cu_sz v) (cu_blk v u_ w)) w_ + 1 := cu_ct_yes c6
                      have hl : lv_has ls 7 [(6, .int (nI (w_ + 1))), (4, .int (nI (fb_sm (fun u => fb_ct (fun w => cu_tb (S0 a) (cu_sz v) (cu_blk v u w)) (2 ^ v)) u_ + fb_ct (fun w => cu_tb (S0 a) (cu_sz v) (cu_blk v u_ w)) (w_ + 1)))), (0, .ref k0), (1, .int (nI a)), (2, .int (nI v)), (3, .int (nI (2 ^ v))), (5, .int (nI u_))] := by rw [e2]; exact hl
                      exact ih (w_ + 1) (by omega) (by omega) ls (lv_sub hl [2, 3, 4, 5, 1, 6, 0] rfl)
              refine lv_iconst (v := nI 0) hx hb dX1_touched_35 (by decide) ?_
              refine lv_istore (lv' := [(6, .int (nI 0)), (0, .ref k0), (1, .int (nI a)), (2, .int (nI v)), (3, .int (nI (2 ^ v))), (4, .int (nI (fb_sm (fun u => fb_ct (fun w => cu_tb (S0 a) (cu_sz v) (cu_blk v u w)) (2 ^ v)) u_))), (5, .int (nI u_))]) hx hb dX1_touched_36 hl (by decide) rfl (fun ls hl => ?_)
              exact inner (2 ^ v + 1) 0 (Nat.zero_le _) (by omega) ls (lv_sub hl [1, 2, 3, 4, 5, 6, 0] rfl)
        refine lv_iconst (v := nI 1) hx hb dX1_touched_19 (by decide) ?_
        refine lv_iload_n hx hb dX1_touched_20 rfl (lv_at hl 2 rfl) ?_
        refine nb_ishl hx hb dX1_touched_21 (by omega) (by omega) ?_
        refine nb_top (y := nI (2 ^ v)) (by rw [Nat.one_mul]) ?_
        refine lv_istore_n (lv' := [(3, .int (nI (2 ^ v))), (0, .ref k0), (1, .int (nI a)), (2, .int (nI v))]) hx hb dX1_touched_22 rfl hl (by decide) rfl (fun ls hl => ?_)
        refine lv_iconst (v := nI 0) hx hb dX1_touched_23 (by decide) ?_
        refine lv_istore (lv' := [(4, .int (nI 0)), (3, .int (nI (2 ^ v))), (0, .ref k0), (1, .int (nI a)), (2, .int (nI v))]) hx hb dX1_touched_24 hl (by decide) rfl (fun ls hl => ?_)
        refine lv_iconst (v := nI 0) hx hb dX1_touched_26 (by decide) ?_
        refine lv_istore (lv' := [(5, .int (nI 0)), (4, .int (nI 0)), (3, .int (nI (2 ^ v))), (0, .ref k0), (1, .int (nI a)), (2, .int (nI v))]) hx hb dX1_touched_27 hl (by decide) rfl (fun ls hl => ?_)
        exact loop (2 ^ v + 1) 0 (Nat.zero_le _) (by rw [Nat.sub_zero]; exact Nat.lt_succ_self _) ls (lv_sub hl [3, 4, 5, 2, 1, 0] rfl)
      · exact k17 (by rw [cu_on_ok ha, cu_lv, if_neg (fun q => q.2 (fa_of_nle c3))]) ls
set_option maxHeartbeats 4000000 in
set_option maxRecDepth 100000 in
/-- stretches of the model -/
theorem mX1_stretches (l : Launch) (D : va_G) (k0 b1 b2 b3 b4 : Nat) (dN dZ : ClassId) (Nm Pl : Nat → Nat) (Mk Th : Nat → Bool) (sz : Nat) (S0 : Nat → Nat → Bool) (hNm : ∀ q, Nm q < 256) (hPl : ∀ q, Pl q < 256) (hR : cu_RM Nm Pl Mk S0) (sv : Int32) : MetI l yX1_stretches cX1_stretches 3 rX1_stretches [.ref k0, .int sv] D (tM dN dZ) (wM k0 b1 b2 b3 b4 dN dZ Nm Pl Mk Th) (uM k0 b1 b2 b3 b4 dN dZ) sz (fun r u => r = cu_on (fun a => nI (cu_runs (S0 a))) sv ∧ ∃ Th2, u = (Nm, Pl, Mk, Th2)) := by
  refine metI_of (by decide) (Nat.le_of_ble_eq_true rfl) ?_
  intro p e s m args below meth c A H0 Q S hK hA hP hD hS kret ls hl
  have S : CallFix p m c cX1_stretches 3 s args lw_all RX1 := S
  have hx := S.1
  have hb := S.2.1
  have hts := S.2.2.2.2
  have hl : lv_has ls 3 [(0, .ref k0), (1, .int sv)] := hl
  refine lv_aload_n hx hb dX1_stretches_0 rfl (lv_at hl 0 rfl) ?_
  refine lv_iload_n hx hb dX1_stretches_1 rfl (lv_at hl 1 rfl) ?_
  refine cu_rcall (As := [.int sv]) (rest := []) S (mX1_isSet l k0 sv) (cwX1_isSet hts ⟨Nat.le_of_ble_eq_true rfl, Nat.le_of_ble_eq_true rfl⟩) (cu_preP (va_recv hK hP (ci := 1) (q0 := 0) rfl rfl)) rfl hl.1 rfl (Nat.le_of_ble_eq_true rfl) dX1_stretches_2 (Nat.zero_le _) (Nat.zero_le _) ?_
  refine nb_if_neB (tgt := 10) hx hb dX1_stretches_5 (by decide) (fun c1 => ?_) (fun c1 => ?_)
  · obtain ⟨a, ha, rfl⟩ := cu_ok_of c1
    have loop : ∀ (n : Nat) (k : Nat), k ≤ 256 → 256 - k < n → ∀ (H : Heap) (locs : List Loc), va_P D vwCl (wM k0 b1 b2 b3 b4 dN dZ Nm Pl Mk (fa_fill (fun c => Mk (256 * a + c)) Th k)) H → va_D A (wM k0 b1 b2 b3 b4 dN dZ Nm Pl Mk (fa_fill (fun c => Mk (256 * a + c)) Th k)) → va_S A H0 H locs → ∀ ls : Array Slot, lv_has ls 3 [(0, .ref k0), (1, .int (nI a)), (2, .int (nI k))] → W p l e rX1_stretches s m args below meth c H locs 0 0 Q (F0 m 12 ls []) := by
      intro n
      induction n with
      | zero => intro k hk hm; exact absurd hm (Nat.not_lt_zero _)
      | succ n ih =>
        intro k hk hm H locs hP hD hS ls hl
        refine lv_iload_n hx hb dX1_stretches_12 rfl (lv_at hl 2 rfl) ?_
        refine lv_sipush (v := nI 256) hx hb dX1_stretches_13 (by decide) ?_
        refine nb_icmp_ge (tgt := 43) hx hb dX1_stretches_16 (by decide) (by omega) (by omega) (fun c2 => ?_) (fun c2 => ?_)
        · have ek : k = 256 := by omega
          subst ek
          refine lv_aload_n hx hb dX1_stretches_43 rfl (lv_at hl 0 rfl) ?_
          refine cu_rcall (As := []) (rest := []) S (mX1_runs l D k0 b1 b2 b3 b4 dN dZ Nm Pl Mk (fa_fill (fun c => Mk (256 * a + c)) Th (256)) (S0 a) hPl hR.2.1 (fun c hc => by rw [fa_fill_in hc, hR.2.2 a ha c hc])) (cwX1_runs hts ⟨Nat.le_of_ble_eq_true rfl, Nat.le_of_ble_eq_true rfl⟩) (cu_preW (va_recv hK hP (ci := 1) (q0 := 0) rfl rfl) hK hP) rfl hl.1 rfl (Nat.le_of_ble_eq_true rfl) dX1_stretches_44 (Nat.zero_le _) (Nat.zero_le _) ?_
          exact kret 47 ls (nI (cu_runs (S0 a))) (Nm, Pl, Mk, fa_fill (fun c => Mk (256 * a + c)) Th (256)) H locs dX1_stretches_47 ⟨by rw [cu_on_ok ha], _, rfl⟩ hP hD hS
        · refine lv_aload_n hx hb dX1_stretches_19 rfl (lv_at hl 0 rfl) ?_
          refine gM_3 S hK hP dX1_stretches_20 ?_
          refine lv_iload_n hx hb dX1_stretches_23 rfl (lv_at hl 2 rfl) ?_
          refine lv_aload_n hx hb dX1_stretches_24 rfl (lv_at hl 0 rfl) ?_
          refine gM_2 S hK hP dX1_stretches_25 ?_
          refine lv_sipush (v := nI 256) hx hb dX1_stretches_28 (by decide) ?_
          refine lv_iload_n hx hb dX1_stretches_31 rfl (lv_at hl 1 rfl) ?_
          refine nb_imul hx hb dX1_stretches_32 ?_
          refine lv_iload_n hx hb dX1_stretches_33 rfl (lv_at hl 2 rfl) ?_
          refine nb_iadd hx hb dX1_stretches_34 ?_
          refine nb_zald hx hb hK hP 3 1 rfl rfl (by omega) (by decide) dX1_stretches_35 ?_
          refine nb_zast hx hb hK hP hD hS 4 1 rfl rfl (by omega) (by decide) dX1_stretches_36 (fun H locs hP hD hS => ?_)
          have hP : va_P D vwCl (wM k0 b1 b2 b3 b4 dN dZ Nm Pl Mk (va_up (fa_fill (fun c => Mk (256 * a + c)) Th k) k (Mk ((256 * a) + k)))) H := hP
          have hD : va_D A (wM k0 b1 b2 b3 b4 dN dZ Nm Pl Mk (va_up (fa_fill (fun c => Mk (256 * a + c)) Th k) k (Mk ((256 * a) + k)))) := hD
          refine lv_iinc (v := nI (k + 1)) (lv' := [(2, .int (nI (k + 1))), (0, .ref k0), (1, .int (nI a))]) hx hb dX1_stretches_37 hl (k := 2) rfl (nI_1 _) (by decide) rfl (fun ls hl => ?_)
          refine lv_goto (tgt := 12) hx hb dX1_stretches_40 (by decide) ?_
          rw [cu_fill_succ (fun c => Mk (256 * a + c))] at hP hD
          exact ih (k + 1) (by omega) (by omega) H locs hP hD hS ls (lv_sub hl [1, 2, 0] rfl)
    refine lv_iconst (v := nI 0) hx hb dX1_stretches_10 (by decide) ?_
    refine lv_istore_n (lv' := [(2, .int (nI 0)), (0, .ref k0), (1, .int (nI a))]) hx hb dX1_stretches_11 rfl hl (by decide) rfl (fun ls hl => ?_)
    have hP : va_P D vwCl (wM k0 b1 b2 b3 b4 dN dZ Nm Pl Mk (fa_fill (fun c => Mk (256 * a + c)) Th 0)) H0 := by rw [fa_fill_0]; exact hP
    have hD : va_D A (wM k0 b1 b2 b3 b4 dN dZ Nm Pl Mk (fa_fill (fun c => Mk (256 * a + c)) Th 0)) := by rw [fa_fill_0]; exact hD
    exact loop 257 0 (Nat.zero_le _) (by omega) H0 [] hP hD hS ls (lv_sub hl [1, 2, 0] rfl)
  · refine lv_iconst (v := (-1)) hx hb dX1_stretches_8 (by decide) ?_
    exact kret 9 ls (-1) (Nm, Pl, Mk, Th) H0 [] dX1_stretches_9 ⟨by rw [cu_on_no c1], _, rfl⟩ hP hD hS
set_option maxHeartbeats 4000000 in
set_option maxRecDepth 100000 in
/-- keep -/
theorem mX1_keep (l : Launch) (D : va_G) (k0 b1 b2 b3 b4 : Nat) (dN dZ : ClassId) (Nm Pl : Nat → Nat) (Mk Th : Nat → Bool) (sz : Nat) (S0 : Nat → Nat → Bool) (hNm : ∀ q, Nm q < 256) (hPl : ∀ q, Pl q < 256) (hR : cu_RM Nm Pl Mk S0) (d : Nat) (T : Nat → Bool) (hd : d < 4) (hT : ∀ c, c < 256 → Th c = T (cu_hn c)) : MetI l yX1_keep cX1_keep 3 rX1_keep [.ref k0, .int (nI d)] D (tM dN dZ) (wM k0 b1 b2 b3 b4 dN dZ Nm Pl Mk Th) (uM k0 b1 b2 b3 b4 dN dZ) sz (fun r u => r = (cu_keep S0 d T).1 ∧ cu_MOK u (cu_keep S0 d T).2) := by
  refine metI_of (by decide) (Nat.le_of_ble_eq_true rfl) ?_
  intro p e s m args below meth c A H0 Q S hK hA hP hD hS kret ls hl
  have S : CallFix p m c cX1_keep 3 s args lw_all RX1 := S
  have hx := S.1
  have hb := S.2.1
  have hts := S.2.2.2.2
  have hl : lv_has ls 3 [(0, .ref k0), (1, .int (nI d))] := hl
  refine lv_aload_n hx hb dX1_keep_0 rfl (lv_at hl 0 rfl) ?_
  refine cu_rcall (As := []) (rest := []) S (mX1_runs l D k0 b1 b2 b3 b4 dN dZ Nm Pl Mk Th T hPl hR.2.1 hT) (cwX1_runs hts ⟨Nat.le_of_ble_eq_true rfl, Nat.le_of_ble_eq_true rfl⟩) (cu_preW (va_recv hK hP (ci := 1) (q0 := 0) rfl rfl) hK hP) rfl hl.1 rfl (Nat.le_of_ble_eq_true rfl) dX1_keep_1 (Nat.zero_le _) (Nat.zero_le _) ?_
  have hrl := cu_runs_le T
  refine lv_bipush (v := nI 40) hx hb dX1_keep_4 (by decide) ?_
  refine nb_icmp_le (tgt := 12) hx hb dX1_keep_6 (by decide) (by omega) (by omega) (fun c1 => ?_) (fun c1 => ?_)
  · have hkeep : cu_keep S0 d T = (nI (fb_ct T 256), fun q => if q = d then T else S0 q) := by rw [cu_keep, if_pos c1]
    have loop : ∀ (n : Nat) (k : Nat), k ≤ 256 → 256 - k < n → ∀ (H : Heap) (locs : List Loc), va_P D vwCl (wM k0 b1 b2 b3 b4 dN dZ Nm Pl (fb_put Mk Th (256 * d) k) Th) H → va_D A (wM k0 b1 b2 b3 b4 dN dZ Nm Pl (fb_put Mk Th (256 * d) k) Th) → va_S A H0 H locs → ∀ ls : Array Slot, lv_has ls 3 [(0, .ref k0), (1, .int (nI d)), (2, .int (nI k))] → W p l e rX1_keep s m args below meth c H locs 0 0 Q (F0 m 14 ls []) := by
      intro n
      induction n with
      | zero => intro k hk hm; exact absurd hm (Nat.not_lt_zero _)
      | succ n ih =>
        intro k hk hm H locs hP hD hS ls hl
        refine lv_iload_n hx hb dX1_keep_14 rfl (lv_at hl 2 rfl) ?_
        refine lv_sipush (v := nI 256) hx hb dX1_keep_15 (by decide) ?_
        refine nb_icmp_ge (tgt := 45) hx hb dX1_keep_18 (by decide) (by omega) (by omega) (fun c2 => ?_) (fun c2 => ?_)
        · have ek : k = 256 := by omega
          subst ek
          have hR2 : cu_RM Nm Pl (fb_put Mk Th (256 * d) (256)) (cu_keep S0 d T).2 := by rw [hkeep]; exact cu_RM_set hR hd hT
          refine lv_aload_n hx hb dX1_keep_45 rfl (lv_at hl 0 rfl) ?_
          refine lv_iload_n hx hb dX1_keep_46 rfl (lv_at hl 1 rfl) ?_
          refine cu_rcall (As := [.int (nI d)]) (rest := []) S (mX1_cells l D k0 b1 b2 b3 b4 dN dZ Nm Pl (fb_put Mk Th (256 * d) (256)) Th (cu_keep S0 d T).2 hNm hPl hR2 (nI d)) (cwX1_cells hts ⟨Nat.le_of_ble_eq_true rfl, Nat.le_of_ble_eq_true rfl⟩) (cu_preW (va_recv hK hP (ci := 1) (q0 := 0) rfl rfl) hK hP) rfl hl.1 rfl (Nat.le_of_ble_eq_true rfl) dX1_keep_47 (Nat.zero_le _) (Nat.zero_le _) ?_
          exact kret 50 ls (cu_on (fun a => nI (fb_ct ((cu_keep S0 d T).2 a) 256)) (nI d)) (Nm, Pl, fb_put Mk Th (256 * d) (256), Th) H locs dX1_keep_50 ⟨by rw [cu_on_ok hd, hkeep]; dsimp only; rw [if_pos rfl], hNm, hPl, hR2⟩ hP hD hS
        · refine lv_aload_n hx hb dX1_keep_21 rfl (lv_at hl 0 rfl) ?_
          refine gM_2 S hK hP dX1_keep_22 ?_
          refine lv_sipush (v := nI 256) hx hb dX1_keep_25 (by decide) ?_
          refine lv_iload_n hx hb dX1_keep_28 rfl (lv_at hl 1 rfl) ?_
          refine nb_imul hx hb dX1_keep_29 ?_
          refine lv_iload_n hx hb dX1_keep_30 rfl (lv_at hl 2 rfl) ?_
          refine nb_iadd hx hb dX1_keep_31 ?_
          refine lv_aload_n hx hb dX1_keep_32 rfl (lv_at hl 0 rfl) ?_
          refine gM_3 S hK hP dX1_keep_33 ?_
          refine lv_iload_n hx hb dX1_keep_36 rfl (lv_at hl 2 rfl) ?_
          refine nb_zald hx hb hK hP 4 1 rfl rfl (by omega) (by decide) dX1_keep_37 ?_
          refine nb_zast hx hb hK hP hD hS 3 1 rfl rfl (by omega) (by decide) dX1_keep_38 (fun H locs hP hD hS => ?_)
          have hP : va_P D vwCl (wM k0 b1 b2 b3 b4 dN dZ Nm Pl (va_up (fb_put Mk Th (256 * d) k) ((256 * d) + k) (Th k)) Th) H := hP
          have hD : va_D A (wM k0 b1 b2 b3 b4 dN dZ Nm Pl (va_up (fb_put Mk Th (256 * d) k) ((256 * d) + k) (Th k)) Th) := hD
          refine lv_iinc (v := nI (k + 1)) (lv' := [(2, .int (nI (k + 1))), (0, .ref k0), (1, .int (nI d))]) hx hb dX1_keep_39 hl (k := 2) rfl (nI_1 _) (by decide) rfl (fun ls hl => ?_)
          refine lv_goto (tgt := 14) hx hb dX1_keep_42 (by decide) ?_
          rw [cu_put_succ] at hP hD
          exact ih (k + 1) (by omega) (by omega) H locs hP hD hS ls (lv_sub hl [1, 2, 0] rfl)
    refine lv_iconst (v := nI 0) hx hb dX1_keep_12 (by decide) ?_
    refine lv_istore_n (lv' := [(2, .int (nI 0)), (0, .ref k0), (1, .int (nI d))]) hx hb dX1_keep_13 rfl hl (by decide) rfl (fun ls hl => ?_)
    have hP : va_P D vwCl (wM k0 b1 b2 b3 b4 dN dZ Nm Pl (fb_put Mk Th (256 * d) 0) Th) H0 := by rw [fb_put_0]; exact hP
    have hD : va_D A (wM k0 b1 b2 b3 b4 dN dZ Nm Pl (fb_put Mk Th (256 * d) 0) Th) := by rw [fb_put_0]; exact hD
    exact loop 257 0 (Nat.zero_le _) (by omega) H0 [] hP hD hS ls (lv_sub hl [1, 2, 0] rfl)
  · refine lv_bipush (v := (-2)) hx hb dX1_keep_9 (by decide) ?_
    exact kret 11 ls (-2) (Nm, Pl, Mk, Th) H0 [] dX1_keep_11 ⟨by rw [cu_keep, if_neg (by omega)], hNm, hPl, by rw [cu_keep, if_neg (by omega)]; exact hR⟩ hP hD hS
end
section
set_option maxHeartbeats 4000000 in
set_option maxRecDepth 100000 in
/-- combine of the model -/
theorem mX1_combine (l : Launch) (D : va_G) (k0 b1 b2 b3 b4 : Nat) (dN dZ : ClassId) (Nm Pl : Nat → Nat) (Mk Th : Nat → Bool) (sz : Nat) (S0 : Nat → Nat → Bool) (hNm : ∀ q, Nm q < 256) (hPl : ∀ q, Pl q < 256) (hR : cu_RM Nm Pl Mk S0) (dv hv av bv : Int32) : MetI l yX1_combine cX1_combine 8 rX1_combine [.ref k0, .int dv, .int hv, .int av, .int bv] D (tM dN dZ) (wM k0 b1 b2 b3 b4 dN dZ Nm Pl Mk Th) (uM k0 b1 b2 b3 b4 dN dZ) sz (fun r u => r = (cu_comb S0 dv hv av bv).1 ∧ cu_MOK u (cu_comb S0 dv hv av bv).2) := by
  refine metI_of (by decide) (Nat.le_of_ble_eq_true rfl) ?_
  intro p e s m args below meth c A H0 Q S hK hA hP hD hS kret ls hl
  have S : CallFix p m c cX1_combine 8 s args lw_all RX1 := S
  have hx := S.1
  have hb := S.2.1
  have hts := S.2.2.2.2
  have hl : lv_has ls 8 [(0, .ref k0), (1, .int dv), (2, .int hv), (3, .int av), (4, .int bv)] := hl
  have k34 : cu_comb S0 dv hv av bv = (-1, S0) → ∀ ls : Array Slot, W p l e rX1_combine s m args below meth c H0 [] 0 0 Q (F0 m 34 ls []) := by
    intro hq ls
    refine lv_iconst (v := (-1)) hx hb dX1_combine_34 (by decide) ?_
    exact kret 35 ls (-1) (Nm, Pl, Mk, Th) H0 [] dX1_combine_35 ⟨by rw [hq], hNm, hPl, by rw [hq]; exact hR⟩ hP hD hS
  refine lv_aload_n hx hb dX1_combine_0 rfl (lv_at hl 0 rfl) ?_
  refine lv_iload_n hx hb dX1_combine_1 rfl (lv_at hl 1 rfl) ?_
  refine cu_rcall (As := [.int dv]) (rest := []) S (mX1_isSet l k0 dv) (cwX1_isSet hts ⟨Nat.le_of_ble_eq_true rfl, Nat.le_of_ble_eq_true rfl⟩) (cu_preP (va_recv hK hP (ci := 1) (q0 := 0) rfl rfl)) rfl hl.1 rfl (Nat.le_of_ble_eq_true rfl) dX1_combine_2 (Nat.zero_le _) (Nat.zero_le _) ?_
  refine nb_if_eqB (tgt := 34) hx hb dX1_combine_5 (by decide) (fun c1 => ?_) (fun c1 => ?_)
  · exact k34 (by rw [cu_comb, if_neg (fun q => by rw [c1] at q; exact absurd q.1 (by decide))]) ls
  · refine lv_aload_n hx hb dX1_combine_8 rfl (lv_at hl 0 rfl) ?_
    refine lv_iload_n hx hb dX1_combine_9 rfl (lv_at hl 3 rfl) ?_
    refine cu_rcall (As := [.int av]) (rest := []) S (mX1_isSet l k0 av) (cwX1_isSet hts ⟨Nat.le_of_ble_eq_true rfl, Nat.le_of_ble_eq_true rfl⟩) (cu_preP (va_recv hK hP (ci := 1) (q0 := 0) rfl rfl)) rfl hl.1 rfl (Nat.le_of_ble_eq_true rfl) dX1_combine_10 (Nat.zero_le _) (Nat.zero_le _) ?_
    refine nb_if_eqB (tgt := 34) hx hb dX1_combine_13 (by decide) (fun c2 => ?_) (fun c2 => ?_)
    · exact k34 (by rw [cu_comb, if_neg (fun q => by rw [c2] at q; exact absurd q.2.1 (by decide))]) ls
    · refine lv_aload_n hx hb dX1_combine_16 rfl (lv_at hl 0 rfl) ?_
      refine lv_iload hx hb dX1_combine_17 (lv_at hl 4 rfl) ?_
      refine cu_rcall (As := [.int bv]) (rest := []) S (mX1_isSet l k0 bv) (cwX1_isSet hts ⟨Nat.le_of_ble_eq_true rfl, Nat.le_of_ble_eq_true rfl⟩) (cu_preP (va_recv hK hP (ci := 1) (q0 := 0) rfl rfl)) rfl hl.1 rfl (Nat.le_of_ble_eq_true rfl) dX1_combine_19 (Nat.zero_le _) (Nat.zero_le _) ?_
      refine nb_if_eqB (tgt := 34) hx hb dX1_combine_22 (by decide) (fun c3 => ?_) (fun c3 => ?_)
      · exact k34 (by rw [cu_comb, if_neg (fun q => by rw [c3] at q; exact absurd q.2.2.1 (by decide))]) ls
      · refine lv_iload_n hx hb dX1_combine_25 rfl (lv_at hl 2 rfl) ?_
        refine lv_if_lt (tgt := 34) hx hb dX1_combine_26 (by decide) (fun c4 => ?_) (fun c4 => ?_)
        · exact k34 (by rw [cu_comb, if_neg (fun q => q.2.2.2.1 c4)]) ls
        · refine lv_iload_n hx hb dX1_combine_29 rfl (lv_at hl 2 rfl) ?_
          refine lv_iconst (v := nI 2) hx hb dX1_combine_30 (by decide) ?_
          refine lv_icmp_le (tgt := 36) hx hb dX1_combine_31 (by decide) (fun c5 => ?_) (fun c5 => ?_)
          · obtain ⟨d, hd, rfl⟩ := cu_ok_of c1
            obtain ⟨a, ha, rfl⟩ := cu_ok_of c2
            obtain ⟨b, hb4, rfl⟩ := cu_ok_of c3
            obtain ⟨how, hhow, rfl⟩ := cu_of_to (n := 2) (by omega) c4 (cu_le_nlt c5)
            have loop : ∀ (n : Nat) (k : Nat), k ≤ 256 → 256 - k < n → ∀ (H : Heap) (locs : List Loc), va_P D vwCl (wM k0 b1 b2 b3 b4 dN dZ Nm Pl Mk (fa_fill (cu_op how (fun c => Mk (256 * a + c)) (fun c => Mk (256 * b + c))) Th k)) H → va_D A (wM k0 b1 b2 b3 b4 dN dZ Nm Pl Mk (fa_fill (cu_op how (fun c => Mk (256 * a + c)) (fun c => Mk (256 * b + c))) Th k)) → va_S A H0 H locs → ∀ ls : Array Slot, lv_has ls 8 [(0, .ref k0), (1, .int (nI d)), (2, .int (nI how)), (3, .int (nI a)), (4, .int (nI b)), (5, .int (nI k))] → W p l e rX1_combine s m args below meth c H locs 0 0 Q (F0 m 39 ls []) := by
              intro n
              induction n with
              | zero => intro k hk hm; exact absurd hm (Nat.not_lt_zero _)
              | succ n ih =>
                intro k hk hm H locs hP hD hS ls hl
                refine lv_iload hx hb dX1_combine_39 (lv_at hl 5 rfl) ?_
                refine lv_sipush (v := nI 256) hx hb dX1_combine_41 (by decide) ?_
                refine nb_icmp_ge (tgt := 151) hx hb dX1_combine_44 (by decide) (by omega) (by omega) (fun c6 => ?_) (fun c6 => ?_)
                · have ek : k = 256 := by omega
                  subst ek
                  refine lv_aload_n hx hb dX1_combine_151 rfl (lv_at hl 0 rfl) ?_
                  refine lv_iload_n hx hb dX1_combine_152 rfl (lv_at hl 1 rfl) ?_
                  refine cu_icall (wr := []) (As := [.int (nI d)]) (rest := []) S (mX1_keep l D k0 b1 b2 b3 b4 dN dZ Nm Pl Mk (fa_fill (cu_op how (fun c => Mk (256 * a + c)) (fun c => Mk (256 * b + c))) Th (256)) H.size S0 hNm hPl hR d (cu_op how (S0 a) (S0 b)) hd (fun c hc => by rw [fa_fill_in hc]; simp only [cu_op, hR.2.2 a ha c hc, hR.2.2 b hb4 c hc])) (cwX1_keep hts ⟨Nat.le_of_ble_eq_true rfl, Nat.le_of_ble_eq_true rfl⟩) (va_recv hK hP (ci := 1) (q0 := 0) rfl rfl) hA hK hP (fun k q h => by cases h) (by rw [List.append_nil]; exact hD) hS rfl hl.1 rfl (Nat.le_of_ble_eq_true rfl) dX1_combine_153 (Nat.zero_le _) (Nat.zero_le _) (fun r u_ H locs hq hP _ hD hS => ?_)
                  obtain ⟨Nm2, Pl2, Mk2, Th2⟩ := u_
                  rw [List.append_nil] at hD
                  have hP : va_P D vwCl (wM k0 b1 b2 b3 b4 dN dZ Nm2 Pl2 Mk2 Th2) H := hP
                  have hD : va_D A (wM k0 b1 b2 b3 b4 dN dZ Nm2 Pl2 Mk2 Th2) := hD
                  exact kret 156 ls r (Nm2, Pl2, Mk2, Th2) H locs dX1_combine_156 (by rw [cu_comb_ok hd hhow ha hb4]; exact hq) hP hD hS
                · refine lv_aload_n hx hb dX1_combine_47 rfl (lv_at hl 0 rfl) ?_
                  refine gM_2 S hK hP dX1_combine_48 ?_
                  refine lv_sipush (v := nI 256) hx hb dX1_combine_51 (by decide) ?_
                  refine lv_iload_n hx hb dX1_combine_54 rfl (lv_at hl 3 rfl) ?_
                  refine nb_imul hx hb dX1_combine_55 ?_
                  refine lv_iload hx hb dX1_combine_56 (lv_at hl 5 rfl) ?_
                  refine nb_iadd hx hb dX1_combine_58 ?_
                  refine nb_zald hx hb hK hP 3 1 rfl rfl (by omega) (by decide) dX1_combine_59 ?_
                  refine lv_istore (lv' := [(6, .int (nI (Mk ((256 * a) + k)).toNat)), (0, .ref k0), (1, .int (nI d)), (2, .int (nI how)), (3, .int (nI a)), (4, .int (nI b)), (5, .int (nI k))]) hx hb dX1_combine_60 hl (by decide) rfl (fun ls hl => ?_)
                  refine lv_aload_n hx hb dX1_combine_62 rfl (lv_at hl 1 rfl) ?_
                  refine gM_2 S hK hP dX1_combine_63 ?_
                  refine lv_sipush (v := nI 256) hx hb dX1_combine_66 (by decide) ?_
                  refine lv_iload hx hb dX1_combine_69 (lv_at hl 5 rfl) ?_
                  refine nb_imul hx hb dX1_combine_71 ?_
                  refine lv_iload hx hb dX1_combine_72 (lv_at hl 6 rfl) ?_
                  refine nb_iadd hx hb dX1_combine_74 ?_
                  refine nb_zald hx hb hK hP 3 1 rfl rfl (by omega) (by decide) dX1_combine_75 ?_
                  refine lv_istore (lv' := [(7, .int (nI (Mk ((256 * b) + k)).toNat)), (6, .int (nI (Mk ((256 * a) + k)).toNat)), (0, .ref k0), (1, .int (nI d)), (2, .int (nI how)), (3, .int (nI a)), (4, .int (nI b)), (5, .int (nI k))]) hx hb dX1_combine_76 hl (by decide) rfl (fun ls hl => ?_)
                  refine lv_aload_n hx hb dX1_combine_78 rfl (lv_at hl 2 rfl) ?_
                  refine gM_3 S hK hP dX1_combine_79 ?_
                  refine lv_iload hx hb dX1_combine_82 (lv_at hl 7 rfl) ?_
                  have k144 : W p l e rX1_combine s m args below meth c H locs 0 0 Q (F0 m 144 ls [.int (nI ((cu_op how (fun c => Mk (256 * a + c)) (fun c => Mk (256 * b + c))) k).toNat), .int (nI k), .ref b4]) := by
                    refine nb_zast hx hb hK hP hD hS 4 1 rfl rfl (by omega) (by decide) dX1_combine_144 (fun H locs hP hD hS => ?_)
                    have hP : va_P D vwCl (wM k0 b1 b2 b3 b4 dN dZ Nm Pl Mk (va_up (fa_fill (cu_op how (fun c => Mk (256 * a + c)) (fun c => Mk (256 * b + c))) Th k) k ((cu_op how (fun c => Mk (256 * a + c)) (fun c => Mk (256 * b + c))) k))) H := hP
                    have hD : va_D A (wM k0 b1 b2 b3 b4 dN dZ Nm Pl Mk (va_up (fa_fill (cu_op how (fun c => Mk (256 * a + c)) (fun c => Mk (256 * b + c))) Th k) k ((cu_op how (fun c => Mk (256 * a + c)) (fun c => Mk (256 * b + c))) k))) := hD
                    refine lv_iinc (v := nI (k + 1)) (lv' := [(5, .int (nI (k + 1))), (7, .int (nI (Mk ((256 * b) + k)).toNat)), (6, .int (nI (Mk ((256 * a) + k)).toNat)), (0, .ref k0), (1, .int (nI d)), (2, .int (nI how)), (3, .int (nI a)), (4, .int (nI b))]) hx hb dX1_combine_145 hl (k := 7) rfl (nI_1 _) (by decide) rfl (fun ls hl => ?_)
                    refine lv_goto (tgt := 39) hx hb dX1_combine_148 (by decide) ?_
                    rw [cu_fill_succ] at hP hD
                    exact ih (k + 1) (by omega) (by omega) H locs hP hD hS ls (lv_sub hl [3, 4, 5, 6, 7, 0] rfl)
                  refine lv_iload_n hx hb dX1_combine_84 rfl (lv_at hl 4 rfl) ?_
                  refine nb_if_ne (tgt := 106) hx hb dX1_combine_85 (by decide) (by omega) (fun d3 => ?_) (fun d3 => ?_)
                  · have e0 : ¬ how = 0 := by omega
                    refine lv_iload_n hx hb dX1_combine_106 rfl (lv_at hl 4 rfl) ?_
                    refine lv_iconst (v := nI 1) hx hb dX1_combine_107 (by decide) ?_
                    refine nb_icmp_ne (tgt := 129) hx hb dX1_combine_108 (by decide) (by omega) (by omega) (fun d4 => ?_) (fun d4 => ?_)
                    · have e1 : ¬ how = 1 := by omega
                      refine lv_iload hx hb dX1_combine_129 (lv_at hl 1 rfl) ?_
                      refine nb_if_eqB (tgt := 143) hx hb dX1_combine_131 (by decide) (fun d5 => ?_) (fun d5 => ?_)
                      · refine lv_iconst (v := nI 0) hx hb dX1_combine_143 (by decide) ?_
                        refine nb_top (y := nI ((cu_op how (fun c => Mk (256 * a + c)) (fun c => Mk (256 * b + c))) k).toNat) (by rw [show (cu_op how (fun c => Mk (256 * a + c)) (fun c => Mk (256 * b + c))) k = false by simp [cu_op, e0, e1, d5]]; rfl) ?_
                        exact k144
                      · refine lv_iload hx hb dX1_combine_134 (lv_at hl 0 rfl) ?_
                        refine nb_if_neB (tgt := 143) hx hb dX1_combine_136 (by decide) (fun d6 => ?_) (fun d6 => ?_)
                        · refine lv_iconst (v := nI 0) hx hb dX1_combine_143 (by decide) ?_
                          refine nb_top (y := nI ((cu_op how (fun c => Mk (256 * a + c)) (fun c => Mk (256 * b + c))) k).toNat) (by rw [show (cu_op how (fun c => Mk (256 * a + c)) (fun c => Mk (256 * b + c))) k = false by simp [cu_op, e0, e1, d5, d6]]; rfl) ?_
                          exact k144
                        · refine lv_iconst (v := nI 1) hx hb dX1_combine_139 (by decide) ?_
                          refine lv_goto (tgt := 144) hx hb dX1_combine_140 (by decide) ?_
                          refine nb_top (y := nI ((cu_op how (fun c => Mk (256 * a + c)) (fun c => Mk (256 * b + c))) k).toNat) (by rw [show (cu_op how (fun c => Mk (256 * a + c)) (fun c => Mk (256 * b + c))) k = true by simp [cu_op, e0, e1, d5, d6]]; rfl) ?_
                          exact k144
                    · refine lv_iload hx hb dX1_combine_111 (lv_at hl 1 rfl) ?_
                      refine nb_if_neB (tgt := 121) hx hb dX1_combine_113 (by decide) (fun d5 => ?_) (fun d5 => ?_)
                      · refine lv_iconst (v := nI 1) hx hb dX1_combine_121 (by decide) ?_
                        refine lv_goto (tgt := 144) hx hb dX1_combine_122 (by decide) ?_
                        refine nb_top (y := nI ((cu_op how (fun c => Mk (256 * a + c)) (fun c => Mk (256 * b + c))) k).toNat) (by rw [show (cu_op how (fun c => Mk (256 * a + c)) (fun c => Mk (256 * b + c))) k = true by simp [cu_op, d4, d5]]; rfl) ?_
                        exact k144
                      · refine lv_iload hx hb dX1_combine_116 (lv_at hl 0 rfl) ?_
                        refine nb_if_eqB (tgt := 125) hx hb dX1_combine_118 (by decide) (fun d6 => ?_) (fun d6 => ?_)
                        · refine lv_iconst (v := nI 0) hx hb dX1_combine_125 (by decide) ?_
                          refine lv_goto (tgt := 144) hx hb dX1_combine_126 (by decide) ?_
                          refine nb_top (y := nI ((cu_op how (fun c => Mk (256 * a + c)) (fun c => Mk (256 * b + c))) k).toNat) (by rw [show (cu_op how (fun c => Mk (256 * a + c)) (fun c => Mk (256 * b + c))) k = false by simp [cu_op, d4, d5, d6]]; rfl) ?_
                          exact k144
                        · refine lv_iconst (v := nI 1) hx hb dX1_combine_121 (by decide) ?_
                          refine lv_goto (tgt := 144) hx hb dX1_combine_122 (by decide) ?_
                          refine nb_top (y := nI ((cu_op how (fun c => Mk (256 * a + c)) (fun c => Mk (256 * b + c))) k).toNat) (by rw [show (cu_op how (fun c => Mk (256 * a + c)) (fun c => Mk (256 * b + c))) k = true by simp [cu_op, d4, d5, d6]]; rfl) ?_
                          exact k144
                  · refine lv_iload hx hb dX1_combine_88 (lv_at hl 1 rfl) ?_
                    refine nb_if_eqB (tgt := 102) hx hb dX1_combine_90 (by decide) (fun d5 => ?_) (fun d5 => ?_)
                    · refine lv_iconst (v := nI 0) hx hb dX1_combine_102 (by decide) ?_
                      refine lv_goto (tgt := 144) hx hb dX1_combine_103 (by decide) ?_
                      refine nb_top (y := nI ((cu_op how (fun c => Mk (256 * a + c)) (fun c => Mk (256 * b + c))) k).toNat) (by rw [show (cu_op how (fun c => Mk (256 * a + c)) (fun c => Mk (256 * b + c))) k = false by simp [cu_op, d3, d5]]; rfl) ?_
                      exact k144
                    · refine lv_iload hx hb dX1_combine_93 (lv_at hl 0 rfl) ?_
                      refine nb_if_eqB (tgt := 102) hx hb dX1_combine_95 (by decide) (fun d6 => ?_) (fun d6 => ?_)
                      · refine lv_iconst (v := nI 0) hx hb dX1_combine_102 (by decide) ?_
                        refine lv_goto (tgt := 144) hx hb dX1_combine_103 (by decide) ?_
                        refine nb_top (y := nI ((cu_op how (fun c => Mk (256 * a + c)) (fun c => Mk (256 * b + c))) k).toNat) (by rw [show (cu_op how (fun c => Mk (256 * a + c)) (fun c => Mk (256 * b + c))) k = false by simp [cu_op, d3, d5, d6]]; rfl) ?_
                        exact k144
                      · refine lv_iconst (v := nI 1) hx hb dX1_combine_98 (by decide) ?_
                        refine lv_goto (tgt := 144) hx hb dX1_combine_99 (by decide) ?_
                        refine nb_top (y := nI ((cu_op how (fun c => Mk (256 * a + c)) (fun c => Mk (256 * b + c))) k).toNat) (by rw [show (cu_op how (fun c => Mk (256 * a + c)) (fun c => Mk (256 * b + c))) k = true by simp [cu_op, d3, d5, d6]]; rfl) ?_
                        exact k144
            refine lv_iconst (v := nI 0) hx hb dX1_combine_36 (by decide) ?_
            refine lv_istore (lv' := [(5, .int (nI 0)), (0, .ref k0), (1, .int (nI d)), (2, .int (nI how)), (3, .int (nI a)), (4, .int (nI b))]) hx hb dX1_combine_37 hl (by decide) rfl (fun ls hl => ?_)
            have hP : va_P D vwCl (wM k0 b1 b2 b3 b4 dN dZ Nm Pl Mk (fa_fill (cu_op how (fun c => Mk (256 * a + c)) (fun c => Mk (256 * b + c))) Th 0)) H0 := by rw [fa_fill_0]; exact hP
            have hD : va_D A (wM k0 b1 b2 b3 b4 dN dZ Nm Pl Mk (fa_fill (cu_op how (fun c => Mk (256 * a + c)) (fun c => Mk (256 * b + c))) Th 0)) := by rw [fa_fill_0]; exact hD
            exact loop 257 0 (Nat.zero_le _) (by omega) H0 [] hP hD hS ls (lv_sub hl [1, 2, 3, 4, 5, 0] rfl)
          · exact k34 (by rw [cu_comb, if_neg (fun q => q.2.2.2.2 (fa_of_nle c5))]) ls
set_option maxHeartbeats 4000000 in
set_option maxRecDepth 100000 in
/-- change of the model -/
theorem mX1_change (l : Launch) (D : va_G) (k0 b1 b2 b3 b4 : Nat) (dN dZ : ClassId) (Nm Pl : Nat → Nat) (Mk Th : Nat → Bool) (sz : Nat) (S0 : Nat → Nat → Bool) (hNm : ∀ q, Nm q < 256) (hPl : ∀ q, Pl q < 256) (hR : cu_RM Nm Pl Mk S0) (sv qv : Int32) (bb : Bool) : MetI l yX1_change cX1_change 8 rX1_change [.ref k0, .int sv, .int qv, .int (nI bb.toNat)] D (tM dN dZ) (wM k0 b1 b2 b3 b4 dN dZ Nm Pl Mk Th) (uM k0 b1 b2 b3 b4 dN dZ) sz (fun r u => r = (cu_chg S0 sv qv bb).1 ∧ cu_MOK u (cu_chg S0 sv qv bb).2) := by
  refine metI_of (by decide) (Nat.le_of_ble_eq_true rfl) ?_
  intro p e s m args below meth c A H0 Q S hK hA hP hD hS kret ls hl
  have S : CallFix p m c cX1_change 8 s args lw_all RX1 := S
  have hx := S.1
  have hb := S.2.1
  have hts := S.2.2.2.2
  have hl : lv_has ls 8 [(0, .ref k0), (1, .int sv), (2, .int qv), (3, .int (nI bb.toNat))] := hl
  have k64 : cu_chg S0 sv qv bb = (-1, S0) → ∀ ls : Array Slot, W p l e rX1_change s m args below meth c H0 [] 0 0 Q (F0 m 64 ls []) := by
    intro hq ls
    refine lv_iconst (v := (-1)) hx hb dX1_change_64 (by decide) ?_
    exact kret 65 ls (-1) (Nm, Pl, Mk, Th) H0 [] dX1_change_65 ⟨by rw [hq], hNm, hPl, by rw [hq]; exact hR⟩ hP hD hS
  refine lv_iload_n hx hb dX1_change_0 rfl (lv_at hl 2 rfl) ?_
  refine lv_sipush (v := nI 1024) hx hb dX1_change_1 (by decide) ?_
  refine lv_idiv hx hb dX1_change_4 (by decide) ?_
  refine lv_istore (lv' := [(4, .int (qv / (nI 1024))), (0, .ref k0), (1, .int sv), (2, .int qv), (3, .int (nI bb.toNat))]) hx hb dX1_change_5 hl (by decide) rfl (fun ls hl => ?_)
  refine lv_iload_n hx hb dX1_change_7 rfl (lv_at hl 3 rfl) ?_
  refine lv_bipush (v := nI 32) hx hb dX1_change_8 (by decide) ?_
  refine lv_idiv hx hb dX1_change_10 (by decide) ?_
  refine lv_bipush (v := nI 32) hx hb dX1_change_11 (by decide) ?_
  refine lv_irem hx hb dX1_change_13 (by decide) ?_
  refine lv_istore (lv' := [(5, .int ((qv / (nI 32)) - (qv / (nI 32)) / (nI 32) * (nI 32))), (4, .int (qv / (nI 1024))), (0, .ref k0), (1, .int sv), (2, .int qv), (3, .int (nI bb.toNat))]) hx hb dX1_change_14 hl (by decide) rfl (fun ls hl => ?_)
  refine lv_iload_n hx hb dX1_change_16 rfl (lv_at hl 4 rfl) ?_
  refine lv_bipush (v := nI 32) hx hb dX1_change_17 (by decide) ?_
  refine lv_irem hx hb dX1_change_19 (by decide) ?_
  refine lv_istore (lv' := [(6, .int (qv - qv / (nI 32) * (nI 32))), (5, .int ((qv / (nI 32)) - (qv / (nI 32)) / (nI 32) * (nI 32))), (4, .int (qv / (nI 1024))), (0, .ref k0), (1, .int sv), (2, .int qv), (3, .int (nI bb.toNat))]) hx hb dX1_change_20 hl (by decide) rfl (fun ls hl => ?_)
  refine lv_aload_n hx hb dX1_change_22 rfl (lv_at hl 3 rfl) ?_
  refine lv_iload_n hx hb dX1_change_23 rfl (lv_at hl 4 rfl) ?_
  refine cu_rcall (As := [.int sv]) (rest := []) S (mX1_isSet l k0 sv) (cwX1_isSet hts ⟨Nat.le_of_ble_eq_true rfl, Nat.le_of_ble_eq_true rfl⟩) (cu_preP (va_recv hK hP (ci := 1) (q0 := 0) rfl rfl)) rfl hl.1 rfl (Nat.le_of_ble_eq_true rfl) dX1_change_24 (Nat.zero_le _) (Nat.zero_le _) ?_
  refine nb_if_eqB (tgt := 64) hx hb dX1_change_27 (by decide) (fun c1 => ?_) (fun c1 => ?_)
  · exact k64 (cu_chg_no (fun g => by rw [c1] at g; exact absurd g.1 (by decide))) ls
  · refine lv_iload_n hx hb dX1_change_30 rfl (lv_at hl 5 rfl) ?_
    refine lv_if_lt (tgt := 64) hx hb dX1_change_31 (by decide) (fun c2 => ?_) (fun c2 => ?_)
    · exact k64 (cu_chg_no (fun g => g.2.1 c2)) ls
    · obtain ⟨a, ha, rfl⟩ := cu_ok_of c1
      obtain ⟨qq, hq31, rfl⟩ := nI_of c2
      have e4 : nI qq / nI 1024 = nI (qq / 1024) := pk_div hq31 (by omega) (by omega)
      have e5 : nI qq / nI 32 = nI (qq / 32) := pk_div hq31 (by omega) (by omega)
      have e6 : nI qq - nI qq / nI 32 * nI 32 = nI (qq % 32) := pk_rem hq31 (by omega) (by omega)
      have e7 : nI (qq / 32) - nI (qq / 32) / nI 32 * nI 32 = nI (qq / 32 % 32) := pk_rem (by omega) (by omega) (by omega)
      rw [e6, e5, e7, e4] at hl
      have hl : lv_has ls 8 [(6, .int (nI (qq % 32))), (5, .int (nI (qq / 32 % 32))), (4, .int (nI (qq / 1024))), (0, .ref k0), (1, .int (nI a)), (2, .int (nI qq)), (3, .int (nI bb.toNat))] := hl
      refine lv_iload hx hb dX1_change_34 (lv_at hl 2 rfl) ?_
      refine lv_iconst (v := nI 4) hx hb dX1_change_36 (by decide) ?_
      refine nb_icmp_gt (tgt := 64) hx hb dX1_change_37 (by decide) (by omega) (by omega) (fun c3 => ?_) (fun c3 => ?_)
      · exact k64 (cu_chg_nq hq31 (fun g => by have := g.1; omega)) ls
      · have hs := cu_sd_sh c3
        refine lv_iload hx hb dX1_change_40 (lv_at hl 1 rfl) ?_
        refine lv_iconst (v := nI 1) hx hb dX1_change_42 (by decide) ?_
        refine lv_iload hx hb dX1_change_43 (lv_at hl 2 rfl) ?_
        refine lv_bipush (v := nI 7) hx hb dX1_change_45 (by decide) ?_
        refine nb_iand hx hb dX1_change_47 ?_
        refine nb_top (y := nI (qq / 1024)) (by rw [cu_and7 _ (by omega)]) ?_
        refine nb_ishl hx hb dX1_change_48 (by omega) (by omega) ?_
        refine nb_icmp_ge (tgt := 64) hx hb dX1_change_49 (by decide) (by omega) (by omega) (fun c4 => ?_) (fun c4 => ?_)
        · exact k64 (cu_chg_nq hq31 (fun g => by have := g.2.1; omega)) ls
        · refine lv_iload hx hb dX1_change_52 (lv_at hl 0 rfl) ?_
          refine lv_iconst (v := nI 1) hx hb dX1_change_54 (by decide) ?_
          refine lv_iload hx hb dX1_change_55 (lv_at hl 2 rfl) ?_
          refine lv_bipush (v := nI 7) hx hb dX1_change_57 (by decide) ?_
          refine nb_iand hx hb dX1_change_59 ?_
          refine nb_top (y := nI (qq / 1024)) (by rw [cu_and7 _ (by omega)]) ?_
          refine nb_ishl hx hb dX1_change_60 (by omega) (by omega) ?_
          refine nb_icmp_lt (tgt := 66) hx hb dX1_change_61 (by decide) (by omega) (by omega) (fun c5 => ?_) (fun c5 => ?_)
          · have hu : qq / 32 % 32 < 2 ^ (qq / 1024) := by omega
            have hw : qq % 32 < 2 ^ (qq / 1024) := by omega
            have hsq : cu_sqok qq := ⟨c3, hu, hw⟩
            have loop : ∀ (n : Nat) (k : Nat), k ≤ 256 → 256 - k < n → ∀ (H : Heap) (locs : List Loc), va_P D vwCl (wM k0 b1 b2 b3 b4 dN dZ Nm Pl Mk (fa_fill (cu_sqv Mk a (qq / 1024) (qq / 32 % 32) (qq % 32) bb) Th k)) H → va_D A (wM k0 b1 b2 b3 b4 dN dZ Nm Pl Mk (fa_fill (cu_sqv Mk a (qq / 1024) (qq / 32 % 32) (qq % 32) bb) Th k)) → va_S A H0 H locs → ∀ ls : Array Slot, lv_has ls 8 [(0, .ref k0), (1, .int (nI a)), (3, .int (nI bb.toNat)), (4, .int (nI (qq / 1024))), (5, .int (nI (qq / 32 % 32))), (6, .int (nI (qq % 32))), (7, .int (nI k))] → W p l e rX1_change s m args below meth c H locs 0 0 Q (F0 m 69 ls []) := by
              intro n
              induction n with
              | zero => intro k hk hm; exact absurd hm (Nat.not_lt_zero _)
              | succ n ih =>
                intro k hk hm H locs hP hD hS ls hl
                refine lv_iload hx hb dX1_change_69 (lv_at hl 6 rfl) ?_
                refine lv_sipush (v := nI 256) hx hb dX1_change_71 (by decide) ?_
                refine nb_icmp_ge (tgt := 122) hx hb dX1_change_74 (by decide) (by omega) (by omega) (fun c6 => ?_) (fun c6 => ?_)
                · have ek : k = 256 := by omega
                  subst ek
                  refine lv_aload_n hx hb dX1_change_122 rfl (lv_at hl 0 rfl) ?_
                  refine lv_iload_n hx hb dX1_change_123 rfl (lv_at hl 1 rfl) ?_
                  refine cu_icall (wr := []) (As := [.int (nI a)]) (rest := []) S (mX1_keep l D k0 b1 b2 b3 b4 dN dZ Nm Pl Mk (fa_fill (cu_sqv Mk a (qq / 1024) (qq / 32 % 32) (qq % 32) bb) Th (256)) H.size S0 hNm hPl hR a (cu_put (S0 a) (qq / 1024) (qq / 32 % 32) (qq % 32) bb) ha (fun c hc => by rw [fa_fill_in hc]; exact cu_sqv_put hR ha c3 hu hw hc)) (cwX1_keep hts ⟨Nat.le_of_ble_eq_true rfl, Nat.le_of_ble_eq_true rfl⟩) (va_recv hK hP (ci := 1) (q0 := 0) rfl rfl) hA hK hP (fun k q h => by cases h) (by rw [List.append_nil]; exact hD) hS rfl hl.1 rfl (Nat.le_of_ble_eq_true rfl) dX1_change_124 (Nat.zero_le _) (Nat.zero_le _) (fun r u_ H locs hq hP _ hD hS => ?_)
                  obtain ⟨Nm2, Pl2, Mk2, Th2⟩ := u_
                  rw [List.append_nil] at hD
                  have hP : va_P D vwCl (wM k0 b1 b2 b3 b4 dN dZ Nm2 Pl2 Mk2 Th2) H := hP
                  have hD : va_D A (wM k0 b1 b2 b3 b4 dN dZ Nm2 Pl2 Mk2 Th2) := hD
                  exact kret 127 ls r (Nm2, Pl2, Mk2, Th2) H locs dX1_change_127 (by rw [cu_chg_ok ha hq31 hsq]; exact hq) hP hD hS
                · refine lv_aload_n hx hb dX1_change_77 rfl (lv_at hl 0 rfl) ?_
                  refine gM_3 S hK hP dX1_change_78 ?_
                  refine lv_iload hx hb dX1_change_81 (lv_at hl 6 rfl) ?_
                  refine lv_aload_n hx hb dX1_change_83 rfl (lv_at hl 0 rfl) ?_
                  refine lv_iload hx hb dX1_change_84 (lv_at hl 6 rfl) ?_
                  refine lv_iload hx hb dX1_change_86 (lv_at hl 3 rfl) ?_
                  refine lv_iload hx hb dX1_change_88 (lv_at hl 4 rfl) ?_
                  refine lv_iload hx hb dX1_change_90 (lv_at hl 5 rfl) ?_
                  refine cu_rcall (As := [.int (nI k), .int (nI (qq / 1024)), .int (nI (qq / 32 % 32)), .int (nI (qq % 32))]) (rest := [.int (nI k), .ref b4]) S (mX1_inSquare l k0 k (qq / 1024) (qq / 32 % 32) (qq % 32) c6 c3 (by omega) (by omega)) (cwX1_inSquare hts ⟨Nat.le_of_ble_eq_true rfl, Nat.le_of_ble_eq_true rfl⟩) (cu_preP (va_recv hK hP (ci := 1) (q0 := 0) rfl rfl)) rfl hl.1 rfl (Nat.le_of_ble_eq_true rfl) dX1_change_92 (Nat.zero_le _) (Nat.zero_le _) ?_
                  refine nb_if_eqB (tgt := 102) hx hb dX1_change_95 (by decide) (fun c7 => ?_) (fun c7 => ?_)
                  · refine lv_aload_n hx hb dX1_change_102 rfl (lv_at hl 0 rfl) ?_
                    refine gM_2 S hK hP dX1_change_103 ?_
                    refine lv_sipush (v := nI 256) hx hb dX1_change_106 (by decide) ?_
                    refine lv_iload_n hx hb dX1_change_109 rfl (lv_at hl 1 rfl) ?_
                    refine nb_imul hx hb dX1_change_110 ?_
                    refine lv_iload hx hb dX1_change_111 (lv_at hl 6 rfl) ?_
                    refine nb_iadd hx hb dX1_change_113 ?_
                    refine nb_zald hx hb hK hP 3 1 rfl rfl (by omega) (by decide) dX1_change_114 ?_
                    refine nb_top (y := nI ((cu_sqv Mk a (qq / 1024) (qq / 32 % 32) (qq % 32) bb) k).toNat) (by rw [cu_sqv, if_neg (by rw [c7]; decide)]) ?_
                    refine nb_zast hx hb hK hP hD hS 4 1 rfl rfl (by omega) (by decide) dX1_change_115 (fun H locs hP hD hS => ?_)
                    have hP : va_P D vwCl (wM k0 b1 b2 b3 b4 dN dZ Nm Pl Mk (va_up (fa_fill (cu_sqv Mk a (qq / 1024) (qq / 32 % 32) (qq % 32) bb) Th k) k ((cu_sqv Mk a (qq / 1024) (qq / 32 % 32) (qq % 32) bb) k))) H := hP
                    have hD : va_D A (wM k0 b1 b2 b3 b4 dN dZ Nm Pl Mk (va_up (fa_fill (cu_sqv Mk a (qq / 1024) (qq / 32 % 32) (qq % 32) bb) Th k) k ((cu_sqv Mk a (qq / 1024) (qq / 32 % 32) (qq % 32) bb) k))) := hD
                    refine lv_iinc (v := nI (k + 1)) (lv' := [(7, .int (nI (k + 1))), (0, .ref k0), (1, .int (nI a)), (3, .int (nI bb.toNat)), (4, .int (nI (qq / 1024))), (5, .int (nI (qq / 32 % 32))), (6, .int (nI (qq % 32)))]) hx hb dX1_change_116 hl (k := 6) rfl (nI_1 _) (by decide) rfl (fun ls hl => ?_)
                    refine lv_goto (tgt := 69) hx hb dX1_change_119 (by decide) ?_
                    rw [cu_fill_succ] at hP hD
                    exact ih (k + 1) (by omega) (by omega) H locs hP hD hS ls (lv_sub hl [1, 2, 3, 4, 5, 6, 0] rfl)
                  · refine lv_iload_n hx hb dX1_change_98 rfl (lv_at hl 2 rfl) ?_
                    refine lv_goto (tgt := 115) hx hb dX1_change_99 (by decide) ?_
                    refine nb_top (y := nI ((cu_sqv Mk a (qq / 1024) (qq / 32 % 32) (qq % 32) bb) k).toNat) (by rw [cu_sqv, if_pos c7]) ?_
                    refine nb_zast hx hb hK hP hD hS 4 1 rfl rfl (by omega) (by decide) dX1_change_115 (fun H locs hP hD hS => ?_)
                    have hP : va_P D vwCl (wM k0 b1 b2 b3 b4 dN dZ Nm Pl Mk (va_up (fa_fill (cu_sqv Mk a (qq / 1024) (qq / 32 % 32) (qq % 32) bb) Th k) k ((cu_sqv Mk a (qq / 1024) (qq / 32 % 32) (qq % 32) bb) k))) H := hP
                    have hD : va_D A (wM k0 b1 b2 b3 b4 dN dZ Nm Pl Mk (va_up (fa_fill (cu_sqv Mk a (qq / 1024) (qq / 32 % 32) (qq % 32) bb) Th k) k ((cu_sqv Mk a (qq / 1024) (qq / 32 % 32) (qq % 32) bb) k))) := hD
                    refine lv_iinc (v := nI (k + 1)) (lv' := [(7, .int (nI (k + 1))), (0, .ref k0), (1, .int (nI a)), (3, .int (nI bb.toNat)), (4, .int (nI (qq / 1024))), (5, .int (nI (qq / 32 % 32))), (6, .int (nI (qq % 32)))]) hx hb dX1_change_116 hl (k := 6) rfl (nI_1 _) (by decide) rfl (fun ls hl => ?_)
                    refine lv_goto (tgt := 69) hx hb dX1_change_119 (by decide) ?_
                    rw [cu_fill_succ] at hP hD
                    exact ih (k + 1) (by omega) (by omega) H locs hP hD hS ls (lv_sub hl [1, 2, 3, 4, 5, 6, 0] rfl)
            refine lv_iconst (v := nI 0) hx hb dX1_change_66 (by decide) ?_
            refine lv_istore (lv' := [(7, .int (nI 0)), (6, .int (nI (qq % 32))), (5, .int (nI (qq / 32 % 32))), (4, .int (nI (qq / 1024))), (0, .ref k0), (1, .int (nI a)), (2, .int (nI qq)), (3, .int (nI bb.toNat))]) hx hb dX1_change_67 hl (by decide) rfl (fun ls hl => ?_)
            have hP : va_P D vwCl (wM k0 b1 b2 b3 b4 dN dZ Nm Pl Mk (fa_fill (cu_sqv Mk a (qq / 1024) (qq / 32 % 32) (qq % 32) bb) Th 0)) H0 := by rw [fa_fill_0]; exact hP
            have hD : va_D A (wM k0 b1 b2 b3 b4 dN dZ Nm Pl Mk (fa_fill (cu_sqv Mk a (qq / 1024) (qq / 32 % 32) (qq % 32) bb) Th 0)) := by rw [fa_fill_0]; exact hD
            exact loop 257 0 (Nat.zero_le _) (by omega) H0 [] hP hD hS ls (lv_sub hl [4, 5, 7, 3, 2, 1, 0] rfl)
          · exact k64 (cu_chg_nq hq31 (fun g => by have := g.2.2; omega)) ls
end
section
def rX0_init : Room := { frames := 1, cells := 5, slots := 573, locals := 12 }
abbrev XI : Type := Nat × Nat × Nat × Nat × Nat × ClassId × ClassId
abbrev iX (h0 : Nat) (u : XI) : va_W := wX h0 u.1 u.2.1 u.2.2.1 u.2.2.2.1 u.2.2.2.2.1 u.2.2.2.2.2.1 u.2.2.2.2.2.2 (fun _ => 0) (fun _ => 0) (fun _ => 0) (fun _ => 0) (fun _ => 0) 0 0 0
abbrev fX0 : List Value := [.null, .null, .null, .int (nI 0), .null, .null, .int (nI 0), .int (nI 0)]
abbrev nX (h0 : Nat) : va_W := [(h0, .inr (0, fX0))]
theorem cu_dsame {D : va_G} {tys : List (ClassId × FieldType)} {s : State} {i j : Nat} {c d : ClassId} {ty : FieldType} (hp : ty = .byte ∨ ty = .short ∨ ty = .int ∨ ty = .boolean) (hK : va_K D vwCl tys s) (hi : tys[i]? = some (c, ty)) (hj : tys[j]? = some (d, ty)) : c = d := by
  have a := (hK.2 i _ hi).2
  have b := (hK.2 j _ hj).2
  rcases hp with rfl | rfl | rfl | rfl <;> exact Option.some.inj (a.symm.trans b)
set_option maxHeartbeats 4000000 in
set_option maxRecDepth 100000 in
/-- CellUnion(): five arrays of zeros -/
theorem mX0_init (l : Launch) (D : va_G) (h0 sz : Nat) : Met l yX0_init (ws_ yX0_init cX0_init 1 none) rX0_init (va_Pc [.ref h0] (bI D [] (nX h0) sz)) (va_Qv (fun _ : XI => True) (fun u t => va_P D vwCl (iX h0 u) t.heap ∧ va_K D vwCl (tX u.2.2.2.2.2.1 u.2.2.2.2.2.2) t ∧ va_D (va_A (nX h0) sz) (iX h0 u)) (va_A (nX h0) sz)) 5 573 (va_A (nX h0) sz) := by
  refine Met.ofW (cc := cX0_init) (maxL := 1) (ret := none) (by decide) rfl ?_
  intro p e s m args below meth c s₁ B hml hv
  obtain ⟨rfl, hsz, hP, hK, hD0⟩ := hv
  have hx := B.exec
  have hb := B.bytes
  have hr := B.returns
  have hts := atoms_spec (ws := ws_ yX0_init cX0_init 1 none) B.pre
  have hts : ∀ w ∈ lw_all, w.before _ s = true := fun w h => hts w (List.mem_cons_of_mem _ h)
  have hown : s.vm.findClass RX0 = some m.cls := findClass_of_methodNamed B.named
  have hlocks := B.notSynchronized
  have hin : meth.name = "<init>" := (name_of_methodNamed B.named B.method).1
  subst hsz
  have hD := hD0.self (sz := s.heap.size)
  generalize hAe : va_A (nX h0) s.heap.size = A at hD ⊢
  have hA : ∀ q : Nat, s.heap.size ≤ q → A q := fun q h => by rw [← hAe]; exact Or.inr h
  have hS : va_S A s.heap s.heap [] := va_S.rf
  have hl := lv_entry ([.ref h0]) (n := 1) (Nat.le_of_ble_eq_true rfl)
  rw [lg_entry_eq]
  generalize (lg_sl ([.ref h0]) ++ List.replicate (1 - (lg_sl ([.ref h0])).length) Slot.unset).toArray = ls at hl ⊢
  have hl : lv_has ls 1 [(0, .ref h0)] := hl
  refine lv_aload_n hx hb dX0_init_0 rfl (lv_at hl 0 rfl) ?_
  refine W.objInit hx hb hown (hts _ q26) (hts _ q27) (hts _ q28) rfl (by rw [hml]; exact hl.1) rfl dX0_init_1 (Nat.le_of_ble_eq_true rfl) (Nat.le_of_ble_eq_true rfl) ?_
  refine W.eq (g2 := F0 m 4 ls []) rfl ?_
  refine lv_aload_n hx hb dX0_init_4 rfl (lv_at hl 0 rfl) ?_
  refine lv_iconst (v := nI 5) hx hb dX0_init_5 (by decide) ?_
  refine va_newa (atype := .byte) (ty := .byte) (N' := 5) (a0 := (5, .inl (fun _ => nI 0))) hx hb (hts _ q54) rfl hK hP hD hS hA (fun cA => rfl) (by decide +kernel) (by decide +kernel) (by decide) (Nat.le_of_ble_eq_true rfl) (Nat.le_of_ble_eq_true rfl) dX0_init_6 (fun a1 d1 H hK hP hD hS => ?_)
  have hP : va_P D vwCl [(h0, .inr (0, [.null, .null, .null, .int (nI 0), .null, .null, .int (nI 0), .int (nI 0)])), (a1, .inl (d1, 5, .inl (fun _ => nI 0)))] H := hP
  have hD : va_D A [(h0, .inr (0, [.null, .null, .null, .int (nI 0), .null, .null, .int (nI 0), .int (nI 0)])), (a1, .inl (d1, 5, .inl (fun _ => nI 0)))] := hD
  refine va_putF (ci := 0) (v := .ref a1) (ty := .array .byte) (C := RX0) (T := TX0) (N := 8) hx hb hts in_X0 tyX0 tyX0_ok nmX0 hown hK hP hD hS 0 rfl rfl 0 (by decide) (hts _ q29) (fun _ h9 => h9) rfl hin rfl (by decide +kernel) rfl rfl (Nat.le_of_ble_eq_true rfl) dX0_init_8 (fun H locs hP hD hS => ?_)
  have hP : va_P D vwCl [(h0, .inr (0, [.ref a1, .null, .null, .int (nI 0), .null, .null, .int (nI 0), .int (nI 0)])), (a1, .inl (d1, 5, .inl (fun _ => nI 0)))] H := hP
  have hD : va_D A [(h0, .inr (0, [.ref a1, .null, .null, .int (nI 0), .null, .null, .int (nI 0), .int (nI 0)])), (a1, .inl (d1, 5, .inl (fun _ => nI 0)))] := hD
  refine lv_aload_n hx hb dX0_init_11 rfl (lv_at hl 0 rfl) ?_
  refine lv_sipush (v := nI 200) hx hb dX0_init_12 (by decide) ?_
  refine va_newa (atype := .short) (ty := .short) (N' := 200) (a0 := (200, .inl (fun _ => nI 0))) hx hb (hts _ q55) rfl hK hP hD hS hA (fun cA => rfl) (by decide +kernel) (by decide +kernel) (by decide) (Nat.le_of_ble_eq_true rfl) (Nat.le_of_ble_eq_true rfl) dX0_init_15 (fun a2 d2 H hK hP hD hS => ?_)
  have hP : va_P D vwCl [(h0, .inr (0, [.ref a1, .null, .null, .int (nI 0), .null, .null, .int (nI 0), .int (nI 0)])), (a1, .inl (d1, 5, .inl (fun _ => nI 0))), (a2, .inl (d2, 200, .inl (fun _ => nI 0)))] H := hP
  have hD : va_D A [(h0, .inr (0, [.ref a1, .null, .null, .int (nI 0), .null, .null, .int (nI 0), .int (nI 0)])), (a1, .inl (d1, 5, .inl (fun _ => nI 0))), (a2, .inl (d2, 200, .inl (fun _ => nI 0)))] := hD
  refine va_putF (ci := 0) (v := .ref a2) (ty := .array .short) (C := RX0) (T := TX0) (N := 8) hx hb hts in_X0 tyX0 tyX0_ok nmX0 hown hK hP hD hS 0 rfl rfl 1 (by decide) (hts _ q30) (fun _ h9 => h9) rfl hin rfl (by decide +kernel) rfl rfl (Nat.le_of_ble_eq_true rfl) dX0_init_17 (fun H locs hP hD hS => ?_)
  have hP : va_P D vwCl [(h0, .inr (0, [.ref a1, .ref a2, .null, .int (nI 0), .null, .null, .int (nI 0), .int (nI 0)])), (a1, .inl (d1, 5, .inl (fun _ => nI 0))), (a2, .inl (d2, 200, .inl (fun _ => nI 0)))] H := hP
  have hD : va_D A [(h0, .inr (0, [.ref a1, .ref a2, .null, .int (nI 0), .null, .null, .int (nI 0), .int (nI 0)])), (a1, .inl (d1, 5, .inl (fun _ => nI 0))), (a2, .inl (d2, 200, .inl (fun _ => nI 0)))] := hD
  refine lv_aload_n hx hb dX0_init_20 rfl (lv_at hl 0 rfl) ?_
  refine lv_sipush (v := nI 200) hx hb dX0_init_21 (by decide) ?_
  refine va_newa (atype := .short) (ty := .short) (N' := 200) (a0 := (200, .inl (fun _ => nI 0))) hx hb (hts _ q55) rfl hK hP hD hS hA (fun cA => rfl) (by decide +kernel) (by decide +kernel) (by decide) (Nat.le_of_ble_eq_true rfl) (Nat.le_of_ble_eq_true rfl) dX0_init_24 (fun a3 d3 H hK hP hD hS => ?_)
  have hP : va_P D vwCl [(h0, .inr (0, [.ref a1, .ref a2, .null, .int (nI 0), .null, .null, .int (nI 0), .int (nI 0)])), (a1, .inl (d1, 5, .inl (fun _ => nI 0))), (a2, .inl (d2, 200, .inl (fun _ => nI 0))), (a3, .inl (d3, 200, .inl (fun _ => nI 0)))] H := hP
  have hD : va_D A [(h0, .inr (0, [.ref a1, .ref a2, .null, .int (nI 0), .null, .null, .int (nI 0), .int (nI 0)])), (a1, .inl (d1, 5, .inl (fun _ => nI 0))), (a2, .inl (d2, 200, .inl (fun _ => nI 0))), (a3, .inl (d3, 200, .inl (fun _ => nI 0)))] := hD
  refine va_putF (ci := 0) (v := .ref a3) (ty := .array .short) (C := RX0) (T := TX0) (N := 8) hx hb hts in_X0 tyX0 tyX0_ok nmX0 hown hK hP hD hS 0 rfl rfl 2 (by decide) (hts _ q31) (fun _ h9 => h9) rfl hin rfl (by decide +kernel) rfl rfl (Nat.le_of_ble_eq_true rfl) dX0_init_26 (fun H locs hP hD hS => ?_)
  have hP : va_P D vwCl [(h0, .inr (0, [.ref a1, .ref a2, .ref a3, .int (nI 0), .null, .null, .int (nI 0), .int (nI 0)])), (a1, .inl (d1, 5, .inl (fun _ => nI 0))), (a2, .inl (d2, 200, .inl (fun _ => nI 0))), (a3, .inl (d3, 200, .inl (fun _ => nI 0)))] H := hP
  have hD : va_D A [(h0, .inr (0, [.ref a1, .ref a2, .ref a3, .int (nI 0), .null, .null, .int (nI 0), .int (nI 0)])), (a1, .inl (d1, 5, .inl (fun _ => nI 0))), (a2, .inl (d2, 200, .inl (fun _ => nI 0))), (a3, .inl (d3, 200, .inl (fun _ => nI 0)))] := hD
  refine lv_aload_n hx hb dX0_init_29 rfl (lv_at hl 0 rfl) ?_
  refine lv_bipush (v := nI 84) hx hb dX0_init_30 (by decide) ?_
  refine va_newa (atype := .short) (ty := .short) (N' := 84) (a0 := (84, .inl (fun _ => nI 0))) hx hb (hts _ q55) rfl hK hP hD hS hA (fun cA => rfl) (by decide +kernel) (by decide +kernel) (by decide) (Nat.le_of_ble_eq_true rfl) (Nat.le_of_ble_eq_true rfl) dX0_init_32 (fun a4 d4 H hK hP hD hS => ?_)
  have hP : va_P D vwCl [(h0, .inr (0, [.ref a1, .ref a2, .ref a3, .int (nI 0), .null, .null, .int (nI 0), .int (nI 0)])), (a1, .inl (d1, 5, .inl (fun _ => nI 0))), (a2, .inl (d2, 200, .inl (fun _ => nI 0))), (a3, .inl (d3, 200, .inl (fun _ => nI 0))), (a4, .inl (d4, 84, .inl (fun _ => nI 0)))] H := hP
  have hD : va_D A [(h0, .inr (0, [.ref a1, .ref a2, .ref a3, .int (nI 0), .null, .null, .int (nI 0), .int (nI 0)])), (a1, .inl (d1, 5, .inl (fun _ => nI 0))), (a2, .inl (d2, 200, .inl (fun _ => nI 0))), (a3, .inl (d3, 200, .inl (fun _ => nI 0))), (a4, .inl (d4, 84, .inl (fun _ => nI 0)))] := hD
  refine va_putF (ci := 0) (v := .ref a4) (ty := .array .short) (C := RX0) (T := TX0) (N := 8) hx hb hts in_X0 tyX0 tyX0_ok nmX0 hown hK hP hD hS 0 rfl rfl 4 (by decide) (hts _ q33) (fun _ h9 => h9) rfl hin rfl (by decide +kernel) rfl rfl (Nat.le_of_ble_eq_true rfl) dX0_init_34 (fun H locs hP hD hS => ?_)
  have hP : va_P D vwCl [(h0, .inr (0, [.ref a1, .ref a2, .ref a3, .int (nI 0), .ref a4, .null, .int (nI 0), .int (nI 0)])), (a1, .inl (d1, 5, .inl (fun _ => nI 0))), (a2, .inl (d2, 200, .inl (fun _ => nI 0))), (a3, .inl (d3, 200, .inl (fun _ => nI 0))), (a4, .inl (d4, 84, .inl (fun _ => nI 0)))] H := hP
  have hD : va_D A [(h0, .inr (0, [.ref a1, .ref a2, .ref a3, .int (nI 0), .ref a4, .null, .int (nI 0), .int (nI 0)])), (a1, .inl (d1, 5, .inl (fun _ => nI 0))), (a2, .inl (d2, 200, .inl (fun _ => nI 0))), (a3, .inl (d3, 200, .inl (fun _ => nI 0))), (a4, .inl (d4, 84, .inl (fun _ => nI 0)))] := hD
  refine lv_aload_n hx hb dX0_init_37 rfl (lv_at hl 0 rfl) ?_
  refine lv_bipush (v := nI 84) hx hb dX0_init_38 (by decide) ?_
  refine va_newa (atype := .short) (ty := .short) (N' := 84) (a0 := (84, .inl (fun _ => nI 0))) hx hb (hts _ q55) rfl hK hP hD hS hA (fun cA => rfl) (by decide +kernel) (by decide +kernel) (by decide) (Nat.le_of_ble_eq_true rfl) (Nat.le_of_ble_eq_true rfl) dX0_init_40 (fun a5 d5 H hK hP hD hS => ?_)
  have hP : va_P D vwCl [(h0, .inr (0, [.ref a1, .ref a2, .ref a3, .int (nI 0), .ref a4, .null, .int (nI 0), .int (nI 0)])), (a1, .inl (d1, 5, .inl (fun _ => nI 0))), (a2, .inl (d2, 200, .inl (fun _ => nI 0))), (a3, .inl (d3, 200, .inl (fun _ => nI 0))), (a4, .inl (d4, 84, .inl (fun _ => nI 0))), (a5, .inl (d5, 84, .inl (fun _ => nI 0)))] H := hP
  have hD : va_D A [(h0, .inr (0, [.ref a1, .ref a2, .ref a3, .int (nI 0), .ref a4, .null, .int (nI 0), .int (nI 0)])), (a1, .inl (d1, 5, .inl (fun _ => nI 0))), (a2, .inl (d2, 200, .inl (fun _ => nI 0))), (a3, .inl (d3, 200, .inl (fun _ => nI 0))), (a4, .inl (d4, 84, .inl (fun _ => nI 0))), (a5, .inl (d5, 84, .inl (fun _ => nI 0)))] := hD
  refine va_putF (ci := 0) (v := .ref a5) (ty := .array .short) (C := RX0) (T := TX0) (N := 8) hx hb hts in_X0 tyX0 tyX0_ok nmX0 hown hK hP hD hS 0 rfl rfl 5 (by decide) (hts _ q34) (fun _ h9 => h9) rfl hin rfl (by decide +kernel) rfl rfl (Nat.le_of_ble_eq_true rfl) dX0_init_42 (fun H locs hP hD hS => ?_)
  have hP : va_P D vwCl [(h0, .inr (0, [.ref a1, .ref a2, .ref a3, .int (nI 0), .ref a4, .ref a5, .int (nI 0), .int (nI 0)])), (a1, .inl (d1, 5, .inl (fun _ => nI 0))), (a2, .inl (d2, 200, .inl (fun _ => nI 0))), (a3, .inl (d3, 200, .inl (fun _ => nI 0))), (a4, .inl (d4, 84, .inl (fun _ => nI 0))), (a5, .inl (d5, 84, .inl (fun _ => nI 0)))] H := hP
  have hD : va_D A [(h0, .inr (0, [.ref a1, .ref a2, .ref a3, .int (nI 0), .ref a4, .ref a5, .int (nI 0), .int (nI 0)])), (a1, .inl (d1, 5, .inl (fun _ => nI 0))), (a2, .inl (d2, 200, .inl (fun _ => nI 0))), (a3, .inl (d3, 200, .inl (fun _ => nI 0))), (a4, .inl (d4, 84, .inl (fun _ => nI 0))), (a5, .inl (d5, 84, .inl (fun _ => nI 0)))] := hD
  have e3 : d3 = d2 := cu_dsame (Or.inr (Or.inl rfl)) hK (i := 2) (j := 1) rfl rfl
  have e4 : d4 = d2 := cu_dsame (Or.inr (Or.inl rfl)) hK (i := 3) (j := 1) rfl rfl
  have e5 : d5 = d2 := cu_dsame (Or.inr (Or.inl rfl)) hK (i := 4) (j := 1) rfl rfl
  subst e3
  subst e4
  subst e5
  have hK9 := hK.sub (tys' := [(d1, .byte), (d5, .short)]) [0, 1] rfl
  refine W.widen (k := 5) (n := 573) (Nat.le_of_ble_eq_true rfl) (Nat.le_of_ble_eq_true rfl) ?_
  exact W.vret hx hb hr (fun t ht hW => ⟨⟨(a1, a2, a3, a4, a5, d1, d5), rfl, trivial, by rw [ht]; exact hP, va_K.moved hW.alike hK9, hD⟩, hS.F ht⟩) hS.2.2 dX0_init_45
end
section
def rX1_init : Room := { frames := 1, cells := 4, slots := 1792, locals := 31 }
abbrev MI : Type := Nat × Nat × Nat × Nat × ClassId × ClassId × (Nat → Nat) × (Nat → Nat)
abbrev iM (k0 : Nat) (u : MI) : va_W := wM k0 u.1 u.2.1 u.2.2.1 u.2.2.2.1 u.2.2.2.2.1 u.2.2.2.2.2.1 u.2.2.2.2.2.2.1 u.2.2.2.2.2.2.2 (fun _ => false) (fun _ => false)
abbrev nM (k0 : Nat) : va_W := [(k0, .inr (1, [.null, .null, .null, .null]))]
theorem cu_hn_inj {b c : Nat} (hb : b < 256) (hc : c < 256) (h : cu_hn b = cu_hn c) : b = c := by
  rw [← (cu_hp_hn b hb).1, h, (cu_hp_hn c hc).1]
theorem cu_ini_N {Nm : Nat → Nat} {k : Nat} (h : ∀ c, c < k → Nm c = cu_hn c) : ∀ c, c < k + 1 → va_up Nm k (cu_hn k) c = cu_hn c := by
  intro c hc
  by_cases q : c = k
  · subst q
    exact va_up_self _ _ _
  · rw [va_up_ne _ _ q]
    exact h c (by omega)
theorem cu_ini_P {Pl : Nat → Nat} {k : Nat} (hk : k < 256) (h : ∀ c, c < k → Pl (cu_hn c) = c) : ∀ c, c < k + 1 → va_up Pl (cu_hn k) k (cu_hn c) = c := by
  intro c hc
  by_cases q : c = k
  · subst q
    exact va_up_self _ _ _
  · rw [va_up_ne _ _ (fun r => q (cu_hn_inj (by omega) hk r))]
    exact h c (by omega)
theorem cu_ini_end {Pl : Nat → Nat} (h : ∀ c, c < 256 → Pl (cu_hn c) = c) : ∀ n, n < 256 → Pl n = cu_hp n := by
  intro n hn
  have e := cu_hn_hp n hn
  have g := h _ e.2
  rw [e.1] at g
  exact g
set_option maxHeartbeats 4000000 in
set_option maxRecDepth 100000 in
/-- CellUnionModel(): the curve's numbers and cells; no marks -/
theorem mX1_init (l : Launch) (D : va_G) (k0 sz : Nat) : Met l yX1_init (ws_ yX1_init cX1_init 2 none) rX1_init (va_Pc [.ref k0] (bI D [] (nM k0) sz)) (va_Qv (fun u : MI => (∀ c, c < 256 → u.2.2.2.2.2.2.1 c = cu_hn c) ∧ (∀ n, n < 256 → u.2.2.2.2.2.2.2 n = cu_hp n) ∧ (∀ q, u.2.2.2.2.2.2.1 q < 256) ∧ ∀ q, u.2.2.2.2.2.2.2 q < 256) (fun u t => va_P D vwCl (iM k0 u) t.heap ∧ va_K D vwCl (tM u.2.2.2.2.1 u.2.2.2.2.2.1) t ∧ va_D (va_A (nM k0) sz) (iM k0 u)) (va_A (nM k0) sz)) 4 1792 (va_A (nM k0) sz) := by
  refine Met.ofW (cc := cX1_init) (maxL := 2) (ret := none) (by decide) rfl ?_
  intro p e s m args below meth c s₁ B hml hv
  obtain ⟨rfl, hsz, hP, hK, hD0⟩ := hv
  have hx := B.exec
  have hb := B.bytes
  have hr := B.returns
  have hts := atoms_spec (ws := ws_ yX1_init cX1_init 2 none) B.pre
  have hts : ∀ w ∈ lw_all, w.before _ s = true := fun w h => hts w (List.mem_cons_of_mem _ h)
  have hown : s.vm.findClass RX1 = some m.cls := findClass_of_methodNamed B.named
  have hlocks := B.notSynchronized
  subst hsz
  have hD := hD0.self (sz := s.heap.size)
  generalize hAe : va_A (nM k0) s.heap.size = A at hD ⊢
  have hA : ∀ q : Nat, s.heap.size ≤ q → A q := fun q h => by rw [← hAe]; exact Or.inr h
  have hS : va_S A s.heap s.heap [] := va_S.rf
  have hl := lv_entry ([.ref k0]) (n := 2) (Nat.le_of_ble_eq_true rfl)
  rw [lg_entry_eq]
  generalize (lg_sl ([.ref k0]) ++ List.replicate (2 - (lg_sl ([.ref k0])).length) Slot.unset).toArray = ls at hl ⊢
  have hl : lv_has ls 2 [(0, .ref k0)] := hl
  refine lv_aload_n hx hb dX1_init_0 rfl (lv_at hl 0 rfl) ?_
  refine W.objInit hx hb hown (hts _ q138) (hts _ q27) (hts _ q28) rfl (by rw [hml]; exact hl.1) rfl dX1_init_1 (Nat.le_of_ble_eq_true rfl) (Nat.le_of_ble_eq_true rfl) ?_
  refine W.eq (g2 := F0 m 4 ls []) rfl ?_
  refine lv_aload_n hx hb dX1_init_4 rfl (lv_at hl 0 rfl) ?_
  refine lv_sipush (v := nI 256) hx hb dX1_init_5 (by decide) ?_
  refine va_newa (atype := .int) (ty := .int) (N' := 256) (a0 := (256, .inl (fun _ => nI 0))) hx hb (hts _ q156) rfl hK hP hD hS hA (fun cA => rfl) (by decide +kernel) (by decide +kernel) (by decide) (Nat.le_of_ble_eq_true rfl) (Nat.le_of_ble_eq_true rfl) dX1_init_8 (fun b1 d1 H hK hP hD hS => ?_)
  have hP : va_P D vwCl [(k0, .inr (1, [.null, .null, .null, .null])), (b1, .inl (d1, 256, .inl (fun _ => nI 0)))] H := hP
  have hD : va_D A [(k0, .inr (1, [.null, .null, .null, .null])), (b1, .inl (d1, 256, .inl (fun _ => nI 0)))] := hD
  refine va_put (ci := 1) (v := .ref b1) (ty := .array .int) (C := RX1) (T := TX1) (N := 4) hx hb hts in_X1 tyX1 tyX1_ok nmX1 hown hK hP hD hS 0 rfl rfl 0 (by decide) (hts _ q143) (fun _ h9 => h9) rfl (by decide +kernel) rfl rfl (Nat.le_of_ble_eq_true rfl) dX1_init_10 (fun H locs hP hD hS => ?_)
  have hP : va_P D vwCl [(k0, .inr (1, [.ref b1, .null, .null, .null])), (b1, .inl (d1, 256, .inl (fun _ => nI 0)))] H := hP
  have hD : va_D A [(k0, .inr (1, [.ref b1, .null, .null, .null])), (b1, .inl (d1, 256, .inl (fun _ => nI 0)))] := hD
  refine lv_aload_n hx hb dX1_init_13 rfl (lv_at hl 0 rfl) ?_
  refine lv_sipush (v := nI 256) hx hb dX1_init_14 (by decide) ?_
  refine va_newa (atype := .int) (ty := .int) (N' := 256) (a0 := (256, .inl (fun _ => nI 0))) hx hb (hts _ q156) rfl hK hP hD hS hA (fun cA => rfl) (by decide +kernel) (by decide +kernel) (by decide) (Nat.le_of_ble_eq_true rfl) (Nat.le_of_ble_eq_true rfl) dX1_init_17 (fun b2 d2 H hK hP hD hS => ?_)
  have hP : va_P D vwCl [(k0, .inr (1, [.ref b1, .null, .null, .null])), (b1, .inl (d1, 256, .inl (fun _ => nI 0))), (b2, .inl (d2, 256, .inl (fun _ => nI 0)))] H := hP
  have hD : va_D A [(k0, .inr (1, [.ref b1, .null, .null, .null])), (b1, .inl (d1, 256, .inl (fun _ => nI 0))), (b2, .inl (d2, 256, .inl (fun _ => nI 0)))] := hD
  refine va_put (ci := 1) (v := .ref b2) (ty := .array .int) (C := RX1) (T := TX1) (N := 4) hx hb hts in_X1 tyX1 tyX1_ok nmX1 hown hK hP hD hS 0 rfl rfl 1 (by decide) (hts _ q144) (fun _ h9 => h9) rfl (by decide +kernel) rfl rfl (Nat.le_of_ble_eq_true rfl) dX1_init_19 (fun H locs hP hD hS => ?_)
  have hP : va_P D vwCl [(k0, .inr (1, [.ref b1, .ref b2, .null, .null])), (b1, .inl (d1, 256, .inl (fun _ => nI 0))), (b2, .inl (d2, 256, .inl (fun _ => nI 0)))] H := hP
  have hD : va_D A [(k0, .inr (1, [.ref b1, .ref b2, .null, .null])), (b1, .inl (d1, 256, .inl (fun _ => nI 0))), (b2, .inl (d2, 256, .inl (fun _ => nI 0)))] := hD
  refine lv_aload_n hx hb dX1_init_22 rfl (lv_at hl 0 rfl) ?_
  refine lv_sipush (v := nI 1024) hx hb dX1_init_23 (by decide) ?_
  refine va_newa (atype := .boolean) (ty := .boolean) (N' := 1024) (a0 := (1024, .inl (fun _ => nI 0))) hx hb (hts _ q157) rfl hK hP hD hS hA (fun cA => rfl) (by decide +kernel) (by decide +kernel) (by decide) (Nat.le_of_ble_eq_true rfl) (Nat.le_of_ble_eq_true rfl) dX1_init_26 (fun b3 d3 H hK hP hD hS => ?_)
  have hP : va_P D vwCl [(k0, .inr (1, [.ref b1, .ref b2, .null, .null])), (b1, .inl (d1, 256, .inl (fun _ => nI 0))), (b2, .inl (d2, 256, .inl (fun _ => nI 0))), (b3, .inl (d3, 1024, .inl (fun _ => nI 0)))] H := hP
  have hD : va_D A [(k0, .inr (1, [.ref b1, .ref b2, .null, .null])), (b1, .inl (d1, 256, .inl (fun _ => nI 0))), (b2, .inl (d2, 256, .inl (fun _ => nI 0))), (b3, .inl (d3, 1024, .inl (fun _ => nI 0)))] := hD
  refine va_put (ci := 1) (v := .ref b3) (ty := .array .boolean) (C := RX1) (T := TX1) (N := 4) hx hb hts in_X1 tyX1 tyX1_ok nmX1 hown hK hP hD hS 0 rfl rfl 2 (by decide) (hts _ q145) (fun _ h9 => h9) rfl (by decide +kernel) rfl rfl (Nat.le_of_ble_eq_true rfl) dX1_init_28 (fun H locs hP hD hS => ?_)
  have hP : va_P D vwCl [(k0, .inr (1, [.ref b1, .ref b2, .ref b3, .null])), (b1, .inl (d1, 256, .inl (fun _ => nI 0))), (b2, .inl (d2, 256, .inl (fun _ => nI 0))), (b3, .inl (d3, 1024, .inl (fun _ => nI 0)))] H := hP
  have hD : va_D A [(k0, .inr (1, [.ref b1, .ref b2, .ref b3, .null])), (b1, .inl (d1, 256, .inl (fun _ => nI 0))), (b2, .inl (d2, 256, .inl (fun _ => nI 0))), (b3, .inl (d3, 1024, .inl (fun _ => nI 0)))] := hD
  refine lv_aload_n hx hb dX1_init_31 rfl (lv_at hl 0 rfl) ?_
  refine lv_sipush (v := nI 256) hx hb dX1_init_32 (by decide) ?_
  refine va_newa (atype := .boolean) (ty := .boolean) (N' := 256) (a0 := (256, .inl (fun _ => nI 0))) hx hb (hts _ q157) rfl hK hP hD hS hA (fun cA => rfl) (by decide +kernel) (by decide +kernel) (by decide) (Nat.le_of_ble_eq_true rfl) (Nat.le_of_ble_eq_true rfl) dX1_init_35 (fun b4 d4 H hK hP hD hS => ?_)
  have hP : va_P D vwCl [(k0, .inr (1, [.ref b1, .ref b2, .ref b3, .null])), (b1, .inl (d1, 256, .inl (fun _ => nI 0))), (b2, .inl (d2, 256, .inl (fun _ => nI 0))), (b3, .inl (d3, 1024, .inl (fun _ => nI 0))), (b4, .inl (d4, 256, .inl (fun _ => nI 0)))] H := hP
  have hD : va_D A [(k0, .inr (1, [.ref b1, .ref b2, .ref b3, .null])), (b1, .inl (d1, 256, .inl (fun _ => nI 0))), (b2, .inl (d2, 256, .inl (fun _ => nI 0))), (b3, .inl (d3, 1024, .inl (fun _ => nI 0))), (b4, .inl (d4, 256, .inl (fun _ => nI 0)))] := hD
  refine va_put (ci := 1) (v := .ref b4) (ty := .array .boolean) (C := RX1) (T := TX1) (N := 4) hx hb hts in_X1 tyX1 tyX1_ok nmX1 hown hK hP hD hS 0 rfl rfl 3 (by decide) (hts _ q146) (fun _ h9 => h9) rfl (by decide +kernel) rfl rfl (Nat.le_of_ble_eq_true rfl) dX1_init_37 (fun H locs hP hD hS => ?_)
  have hP : va_P D vwCl [(k0, .inr (1, [.ref b1, .ref b2, .ref b3, .ref b4])), (b1, .inl (d1, 256, .inl (fun _ => nI 0))), (b2, .inl (d2, 256, .inl (fun _ => nI 0))), (b3, .inl (d3, 1024, .inl (fun _ => nI 0))), (b4, .inl (d4, 256, .inl (fun _ => nI 0)))] H := hP
  have hD : va_D A [(k0, .inr (1, [.ref b1, .ref b2, .ref b3, .ref b4])), (b1, .inl (d1, 256, .inl (fun _ => nI 0))), (b2, .inl (d2, 256, .inl (fun _ => nI 0))), (b3, .inl (d3, 1024, .inl (fun _ => nI 0))), (b4, .inl (d4, 256, .inl (fun _ => nI 0)))] := hD
  have e2 : d2 = d1 := cu_dsame (Or.inr (Or.inr (Or.inl rfl))) hK (i := 1) (j := 0) rfl rfl
  have e4 : d4 = d3 := cu_dsame (Or.inr (Or.inr (Or.inr rfl))) hK (i := 3) (j := 2) rfl rfl
  obtain ⟨dN, hdN⟩ : ∃ d, d = d1 := ⟨_, rfl⟩
  obtain ⟨dZ, hdZ⟩ : ∃ d, d = d3 := ⟨_, rfl⟩
  rw [e2, e4, ← hdN, ← hdZ] at hK hP hD
  have hK : va_K D vwCl (tM dN dZ) s := hK.sub (tys' := [(dN, .int), (dZ, .boolean)]) [0, 2] rfl
  refine W.widen (k := 4) (n := 1792) (Nat.le_of_ble_eq_true rfl) (Nat.le_of_ble_eq_true rfl) ?_
  have hP : va_P D vwCl (wM k0 b1 b2 b3 b4 dN dZ (fun _ => 0) (fun _ => 0) (fun _ => false) (fun _ => false)) H := hP
  have hD : va_D A (wM k0 b1 b2 b3 b4 dN dZ (fun _ => 0) (fun _ => 0) (fun _ => false) (fun _ => false)) := hD
  generalize hargs : ([.ref k0] : List Value).toArray = args at hts ⊢
  generalize hH0 : s.heap = H0 at hS hA
  have S : CallFix p m c cX1_init 2 s args lw_all RX1 := ⟨hx, hb, hml, hown, hts⟩
  generalize hQ : MQ below _ args s 4 1792 A = Q
  have kret : ∀ (Nm Pl : Nat → Nat) (H : Heap) (locs : List Loc) (ls : Array Slot), (∀ c, c < 256 → Nm c = cu_hn c) → (∀ n, n < 256 → Pl n = cu_hp n) → (∀ q, Nm q < 256) → (∀ q, Pl q < 256) → va_P D vwCl (wM k0 b1 b2 b3 b4 dN dZ Nm Pl (fun _ => false) (fun _ => false)) H → va_D A (wM k0 b1 b2 b3 b4 dN dZ Nm Pl (fun _ => false) (fun _ => false)) → va_S A H0 H locs → W p l e rX1_init s m args below meth c H locs 4 1792 Q (F0 m 85 ls []) := by
    intro Nm Pl H locs ls g1 g2 g3 g4 hP hD hS
    rw [← hQ]
    subst hargs
    rw [← hH0] at hS
    exact W.vret hx hb hr (fun t ht hW => ⟨⟨(b1, b2, b3, b4, dN, dZ, Nm, Pl), rfl, ⟨g1, g2, g3, g4⟩, by rw [ht]; exact hP, va_K.moved hW.alike hK, hD⟩, hS.F ht⟩) hS.2.2 dX1_init_85
  have loop : ∀ (n : Nat) (k : Nat) (Nm Pl : Nat → Nat), k ≤ 256 → (∀ c, c < k → Nm c = cu_hn c) → (∀ c, c < k → Pl (cu_hn c) = c) → (∀ q, Nm q < 256) → (∀ q, Pl q < 256) → 256 - k < n → ∀ (H : Heap) (locs : List Loc), va_P D vwCl (wM k0 b1 b2 b3 b4 dN dZ Nm Pl (fun _ => false) (fun _ => false)) H → va_D A (wM k0 b1 b2 b3 b4 dN dZ Nm Pl (fun _ => false) (fun _ => false)) → va_S A H0 H locs → ∀ ls : Array Slot, lv_has ls 2 [(0, .ref k0), (1, .int (nI k))] → W p l e rX1_init s m args below meth c H locs 4 1792 Q (F0 m 42 ls []) := by
    intro n
    induction n with
    | zero => intro k Nm Pl hk hN hPP hNm hPl hm; exact absurd hm (Nat.not_lt_zero _)
    | succ n ih =>
      intro k Nm Pl hk hN hPP hNm hPl hm H locs hP hD hS ls hl
      refine lv_iload_n hx hb dX1_init_42 rfl (lv_at hl 1 rfl) ?_
      refine lv_sipush (v := nI 256) hx hb dX1_init_43 (by decide) ?_
      refine nb_icmp_ge (tgt := 85) hx hb dX1_init_46 (by decide) (by omega) (by omega) (fun c0 => ?_) (fun c0 => ?_)
      · exact kret Nm Pl H locs ls (fun c q => hN c (by omega)) (cu_ini_end (fun c q => hPP c (by omega))) hNm hPl hP hD hS
      · have hk1 := (cu_hp_hn k c0).2
        refine lv_aload_n hx hb dX1_init_49 rfl (lv_at hl 0 rfl) ?_
        refine gM_0 S hK hP dX1_init_50 ?_
        refine lv_iload_n hx hb dX1_init_53 rfl (lv_at hl 1 rfl) ?_
        refine lv_aload_n hx hb dX1_init_54 rfl (lv_at hl 0 rfl) ?_
        refine lv_iload_n hx hb dX1_init_55 rfl (lv_at hl 1 rfl) ?_
        refine lv_bipush (v := nI 16) hx hb dX1_init_56 (by decide) ?_
        refine nb_idiv hx hb dX1_init_58 (by omega) (by omega) (by omega) ?_
        refine lv_iload_n hx hb dX1_init_59 rfl (lv_at hl 1 rfl) ?_
        refine lv_bipush (v := nI 16) hx hb dX1_init_60 (by decide) ?_
        refine nb_irem hx hb dX1_init_62 (by omega) (by omega) (by omega) ?_
        refine cu_rcall (As := [.int (nI (k / 16)), .int (nI (k % 16))]) (rest := [.int (nI k), .ref b1]) S (mX1_numberOf l k0 (k / 16) (k % 16) (by omega) (by omega)) (cwX1_numberOf hts ⟨Nat.le_of_ble_eq_true rfl, Nat.le_of_ble_eq_true rfl⟩) (cu_preP (va_recv hK hP (ci := 1) (q0 := 0) rfl rfl)) rfl hl.1 rfl (Nat.le_of_ble_eq_true rfl) dX1_init_63 (Nat.le_of_ble_eq_true rfl) (Nat.le_of_ble_eq_true rfl) ?_
        refine nb_top (y := nI (cu_hn k)) rfl ?_
        refine nb_iast hx hb hK hP hD hS 1 0 rfl rfl (by omega) (by decide) dX1_init_66 (fun H locs hP hD hS => ?_)
        have hP : va_P D vwCl (wM k0 b1 b2 b3 b4 dN dZ (va_up Nm k (cu_hn k)) Pl (fun _ => false) (fun _ => false)) H := hP
        have hD : va_D A (wM k0 b1 b2 b3 b4 dN dZ (va_up Nm k (cu_hn k)) Pl (fun _ => false) (fun _ => false)) := hD
        have hNm : ∀ q, (va_up Nm k (cu_hn k)) q < 256 := cu_upl hNm (by omega)
        refine lv_aload_n hx hb dX1_init_67 rfl (lv_at hl 0 rfl) ?_
        refine gM_1 S hK hP dX1_init_68 ?_
        refine lv_aload_n hx hb dX1_init_71 rfl (lv_at hl 0 rfl) ?_
        refine gM_0 S hK hP dX1_init_72 ?_
        refine lv_iload_n hx hb dX1_init_75 rfl (lv_at hl 1 rfl) ?_
        refine nb_iald hx hb hK hP 1 0 rfl rfl (by omega) (by decide) dX1_init_76 ?_
        have b_1 := hNm k
        refine nb_top (y := nI (cu_hn k)) (by rw [va_up_self]) ?_
        refine lv_iload_n hx hb dX1_init_77 rfl (lv_at hl 1 rfl) ?_
        refine nb_iast hx hb hK hP hD hS 2 0 rfl rfl (by omega) (by decide) dX1_init_78 (fun H locs hP hD hS => ?_)
        have hP : va_P D vwCl (wM k0 b1 b2 b3 b4 dN dZ (va_up Nm k (cu_hn k)) (va_up Pl (cu_hn k) k) (fun _ => false) (fun _ => false)) H := hP
        have hD : va_D A (wM k0 b1 b2 b3 b4 dN dZ (va_up Nm k (cu_hn k)) (va_up Pl (cu_hn k) k) (fun _ => false) (fun _ => false)) := hD
        have hPl : ∀ q, (va_up Pl (cu_hn k) k) q < 256 := cu_upl hPl (by omega)
        refine lv_iinc (v := nI (k + 1)) (lv' := [(1, .int (nI (k + 1))), (0, .ref k0)]) hx hb dX1_init_79 hl (k := 1) rfl (nI_1 _) (by decide) rfl (fun ls hl => ?_)
        refine lv_goto (tgt := 42) hx hb dX1_init_82 (by decide) ?_
        exact ih (k + 1) (va_up Nm k (cu_hn k)) (va_up Pl (cu_hn k) k) (by omega) (cu_ini_N hN) (cu_ini_P c0 hPP) hNm hPl (by omega) H locs hP hD hS ls (lv_sub hl [1, 0] rfl)
  refine lv_iconst (v := nI 0) hx hb dX1_init_40 (by decide) ?_
  refine lv_istore_n (lv' := [(1, .int (nI 0)), (0, .ref k0)]) hx hb dX1_init_41 rfl hl (by decide) rfl (fun ls hl => ?_)
  exact loop 257 0 (fun _ => 0) (fun _ => 0) (Nat.zero_le _) (fun c q => absurd q (Nat.not_lt_zero _)) (fun c q => absurd q (Nat.not_lt_zero _)) (fun _ => by decide) (fun _ => by decide) (by omega) H locs hP hD hS ls (lv_sub hl [1, 0] rfl)
end
section
/-! THE CLAIM OUT OF ONE WALK OF THE LAW'S BODY. Your part is whole_start (and what it stands on); all else here is the same for every law, but numbers. -/
def R_law : String := "CellUnionLaw"
def lw_P (b : Addr) (xs : List Int32) (args : Array Value) (s : State) : Prop := args = #[.ref b] ∧ s.IntsAt b xs ∧ xs.length ≤ 320 ∧ (Jvm.Cond.and given_1 narrow_1).before args s = true
def lw_Q (_ : Array Value) (s : State) (o : Outcome) (t : State) : Prop := o = .returned (some (.int 1)) ∧ Framed s o t [] 600000 7290000
def lw_Z (below : List Frame) (a : Array Value) (s : State) : State → Prop := fun t => ∃ o, t.status = .running ∧ Ended t below o ∧ lw_Q a s o t
/-- the law's own end, with 1 on the stack, nothing written that was there before, its room as the claim has it -/
theorem lw_ret {p : Program} {l : Launch} {e : Env} {s : State} {m : MethodId} {below : List Frame} {meth : Method} {c : Code} {b : Nat} (hx : p.tables.exec = Jvm.exec) (hb : c.code = code) (hr : meth.sig.returnType = ret) (hlocks : meth.locks = false) {pc : Nat} {H : Heap} {ls : Array Slot} (hdg : decode code pc = .ok (.ireturn, 1)) : W p l e room_1 s m #[Value.ref b] below meth c H [] 600000 7290000 (lw_Z below #[Value.ref b] s) (F0 m pc ls [.int 1]) := by
  intro T hT X
  obtain ⟨fs, hret, hrun, hended, hW, hframe⟩ := X.leave (v := some (.int 1)) (hlocks := hlocks) (fun h => by rw [hr] at h; cases h)
  have hmeth' : T.vm.method? m = some meth := X.method'
  refine ⟨T.setFrames fs, ?_, .returned (some (.int 1)), hrun, hended, rfl, ⟨_, rfl⟩, hW, hframe⟩
  jvm_step X.here [X.here.top, hx, hb, hdg, hmeth', hr, ret, narrow_b1]
  (try refine ⟨rfl, ?_⟩); (try refine ⟨rfl, ?_⟩)
  first | (intro acts; rw [hret _ acts rfl rfl rfl]) | rw [hret _ _ rfl rfl rfl]
  exact Steps.refl _
/-- what holds at the law's entry: the machine, the code, the tables' words (any of lw_tbl by 'hts w (by decide +kernel)'), the script of L ints xs at the cell b, what the Statement gives of the start (any of its parts by flat_of_before) -/
def lw_At (p : Program) (s : State) (m : MethodId) (meth : Method) (c : Code) (b L : Nat) (xs : Nat → Int32) : Prop :=
  p.tables.exec = Jvm.exec ∧ c.code = code ∧ meth.sig.returnType = ret ∧ c.maxLocals = 4 ∧ s.vm.findClass R_law = some m.cls ∧ (∀ w ∈ lw_tbl, w.before #[Value.ref b] s = true) ∧ va_X b L xs s s.heap ∧ b < s.heap.size ∧ meth.locks = false ∧ (Jvm.Cond.and given_1 narrow_1).before #[Value.ref b] s = true
end
section
/-! the law's calls (printed), its reads of the script -/
theorem cwLX0_change {s : State} {args : Array Value} (hts : ∀ w ∈ lw_all, w.before args s = true) : CallW room_1 s args R_law RX0 13 yX0_change cX0_change 10 (some .int) (ws_ yX0_change cX0_change 10 (some .int)) rX0_change 0 0 3 :=
  cwV 3 hts (lw_V q56 q57 q58 q19 q59) rfl rfl rfl (by decide +kernel) ⟨Nat.le_of_ble_eq_true rfl, Nat.le_of_ble_eq_true rfl⟩
theorem cwLX0_combine {s : State} {args : Array Value} (hts : ∀ w ∈ lw_all, w.before args s = true) : CallW room_1 s args R_law RX0 18 yX0_combine cX0_combine 5 (some .int) (ws_ yX0_combine cX0_combine 5 (some .int)) rX0_combine 0 0 4 :=
  cwV 4 hts (lw_V q80 q81 q82 q19 q83) rfl rfl rfl (by decide +kernel) ⟨Nat.le_of_ble_eq_true rfl, Nat.le_of_ble_eq_true rfl⟩
theorem cwLX0_has {s : State} {args : Array Value} (hts : ∀ w ∈ lw_all, w.before args s = true) : CallW room_1 s args R_law RX0 23 yX0_has cX0_has 8 (some .boolean) (ws_ yX0_has cX0_has 8 (some .boolean)) rX0_has 0 0 3 :=
  cwV 3 hts (lw_V q84 q85 q86 q19 q87) rfl rfl rfl (by decide +kernel) ⟨Nat.le_of_ble_eq_true rfl, Nat.le_of_ble_eq_true rfl⟩
theorem cwLX0_cells {s : State} {args : Array Value} (hts : ∀ w ∈ lw_all, w.before args s = true) : CallW room_1 s args R_law RX0 28 yX0_cells cX0_cells 4 (some .int) (ws_ yX0_cells cX0_cells 4 (some .int)) rX0_cells 0 0 1 :=
  cwV 1 hts (lw_V q92 q77 q78 q19 q79) rfl rfl rfl (by decide +kernel) ⟨Nat.le_of_ble_eq_true rfl, Nat.le_of_ble_eq_true rfl⟩
theorem cwLX0_stretches {s : State} {args : Array Value} (hts : ∀ w ∈ lw_all, w.before args s = true) : CallW room_1 s args R_law RX0 33 yX0_stretches cX0_stretches 2 (some .int) (ws_ yX0_stretches cX0_stretches 2 (some .int)) rX0_stretches 0 0 1 :=
  cwV 1 hts (lw_V q93 q94 q95 q19 q96) rfl rfl rfl (by decide +kernel) ⟨Nat.le_of_ble_eq_true rfl, Nat.le_of_ble_eq_true rfl⟩
theorem cwLX0_pieces {s : State} {args : Array Value} (hts : ∀ w ∈ lw_all, w.before args s = true) : CallW room_1 s args R_law RX0 37 yX0_pieces cX0_pieces 5 (some .int) (ws_ yX0_pieces cX0_pieces 5 (some .int)) rX0_pieces 0 0 1 :=
  cwV 1 hts (lw_V q97 q98 q99 q19 q100) rfl rfl rfl (by decide +kernel) ⟨Nat.le_of_ble_eq_true rfl, Nat.le_of_ble_eq_true rfl⟩
theorem cwLX0_piece {s : State} {args : Array Value} (hts : ∀ w ∈ lw_all, w.before args s = true) : CallW room_1 s args R_law RX0 41 yX0_piece cX0_piece 7 (some .int) (ws_ yX0_piece cX0_piece 7 (some .int)) rX0_piece 0 0 2 :=
  cwV 2 hts (lw_V q105 q106 q107 q19 q108) rfl rfl rfl (by decide +kernel) ⟨Nat.le_of_ble_eq_true rfl, Nat.le_of_ble_eq_true rfl⟩
theorem cwLX0_number {s : State} {args : Array Value} (hts : ∀ w ∈ lw_all, w.before args s = true) : CallW room_1 s args R_law RX0 46 yX0_number cX0_number 3 (some .int) (ws_ yX0_number cX0_number 3 (some .int)) rX0_number 0 0 2 :=
  cwV 2 hts (lw_V q113 q114 q115 q19 q116) rfl rfl rfl (by decide +kernel) ⟨Nat.le_of_ble_eq_true rfl, Nat.le_of_ble_eq_true rfl⟩
theorem cwLX0_place {s : State} {args : Array Value} (hts : ∀ w ∈ lw_all, w.before args s = true) : CallW room_1 s args R_law RX0 50 yX0_place cX0_place 2 (some .int) (ws_ yX0_place cX0_place 2 (some .int)) rX0_place 0 0 1 :=
  cwV 1 hts (lw_V q117 q118 q119 q19 q120) rfl rfl rfl (by decide +kernel) ⟨Nat.le_of_ble_eq_true rfl, Nat.le_of_ble_eq_true rfl⟩
theorem cwLX0_nth {s : State} {args : Array Value} (hts : ∀ w ∈ lw_all, w.before args s = true) : CallW room_1 s args R_law RX0 54 yX0_nth cX0_nth 6 (some .int) (ws_ yX0_nth cX0_nth 6 (some .int)) rX0_nth 0 0 2 :=
  cwV 2 hts (lw_V q125 q126 q127 q19 q128) rfl rfl rfl (by decide +kernel) ⟨Nat.le_of_ble_eq_true rfl, Nat.le_of_ble_eq_true rfl⟩
theorem cwLX0_touched {s : State} {args : Array Value} (hts : ∀ w ∈ lw_all, w.before args s = true) : CallW room_1 s args R_law RX0 58 yX0_touched cX0_touched 9 (some .int) (ws_ yX0_touched cX0_touched 9 (some .int)) rX0_touched 0 0 2 :=
  cwV 2 hts (lw_V q129 q130 q131 q19 q132) rfl rfl rfl (by decide +kernel) ⟨Nat.le_of_ble_eq_true rfl, Nat.le_of_ble_eq_true rfl⟩
theorem cwLX1_change {s : State} {args : Array Value} (hts : ∀ w ∈ lw_all, w.before args s = true) : CallW room_1 s args R_law RX1 17 yX1_change cX1_change 8 (some .int) (ws_ yX1_change cX1_change 8 (some .int)) rX1_change 0 0 3 :=
  cwV 3 hts (lw_V q158 q159 q160 q20 q161) rfl rfl rfl (by decide +kernel) ⟨Nat.le_of_ble_eq_true rfl, Nat.le_of_ble_eq_true rfl⟩
theorem cwLX1_combine {s : State} {args : Array Value} (hts : ∀ w ∈ lw_all, w.before args s = true) : CallW room_1 s args R_law RX1 22 yX1_combine cX1_combine 8 (some .int) (ws_ yX1_combine cX1_combine 8 (some .int)) rX1_combine 0 0 4 :=
  cwV 4 hts (lw_V q182 q183 q184 q20 q185) rfl rfl rfl (by decide +kernel) ⟨Nat.le_of_ble_eq_true rfl, Nat.le_of_ble_eq_true rfl⟩
theorem cwLX1_has {s : State} {args : Array Value} (hts : ∀ w ∈ lw_all, w.before args s = true) : CallW room_1 s args R_law RX1 27 yX1_has cX1_has 4 (some .boolean) (ws_ yX1_has cX1_has 4 (some .boolean)) rX1_has 0 0 3 :=
  cwV 3 hts (lw_V q186 q187 q188 q20 q189) rfl rfl rfl (by decide +kernel) ⟨Nat.le_of_ble_eq_true rfl, Nat.le_of_ble_eq_true rfl⟩
theorem cwLX1_cells {s : State} {args : Array Value} (hts : ∀ w ∈ lw_all, w.before args s = true) : CallW room_1 s args R_law RX1 32 yX1_cells cX1_cells 4 (some .int) (ws_ yX1_cells cX1_cells 4 (some .int)) rX1_cells 0 0 1 :=
  cwV 1 hts (lw_V q194 q179 q180 q20 q181) rfl rfl rfl (by decide +kernel) ⟨Nat.le_of_ble_eq_true rfl, Nat.le_of_ble_eq_true rfl⟩
theorem cwLX1_stretches {s : State} {args : Array Value} (hts : ∀ w ∈ lw_all, w.before args s = true) : CallW room_1 s args R_law RX1 36 yX1_stretches cX1_stretches 3 (some .int) (ws_ yX1_stretches cX1_stretches 3 (some .int)) rX1_stretches 0 0 1 :=
  cwV 1 hts (lw_V q195 q196 q197 q20 q198) rfl rfl rfl (by decide +kernel) ⟨Nat.le_of_ble_eq_true rfl, Nat.le_of_ble_eq_true rfl⟩
theorem cwLX1_pieces {s : State} {args : Array Value} (hts : ∀ w ∈ lw_all, w.before args s = true) : CallW room_1 s args R_law RX1 40 yX1_pieces cX1_pieces 5 (some .int) (ws_ yX1_pieces cX1_pieces 5 (some .int)) rX1_pieces 0 0 1 :=
  cwV 1 hts (lw_V q199 q200 q201 q20 q202) rfl rfl rfl (by decide +kernel) ⟨Nat.le_of_ble_eq_true rfl, Nat.le_of_ble_eq_true rfl⟩
theorem cwLX1_piece {s : State} {args : Array Value} (hts : ∀ w ∈ lw_all, w.before args s = true) : CallW room_1 s args R_law RX1 45 yX1_piece cX1_piece 6 (some .int) (ws_ yX1_piece cX1_piece 6 (some .int)) rX1_piece 0 0 2 :=
  cwV 2 hts (lw_V q215 q216 q217 q20 q218) rfl rfl rfl (by decide +kernel) ⟨Nat.le_of_ble_eq_true rfl, Nat.le_of_ble_eq_true rfl⟩
theorem cwLX1_number {s : State} {args : Array Value} (hts : ∀ w ∈ lw_all, w.before args s = true) : CallW room_1 s args R_law RX1 49 yX1_number cX1_number 3 (some .int) (ws_ yX1_number cX1_number 3 (some .int)) rX1_number 0 0 2 :=
  cwV 2 hts (lw_V q219 q220 q221 q20 q222) rfl rfl rfl (by decide +kernel) ⟨Nat.le_of_ble_eq_true rfl, Nat.le_of_ble_eq_true rfl⟩
theorem cwLX1_place {s : State} {args : Array Value} (hts : ∀ w ∈ lw_all, w.before args s = true) : CallW room_1 s args R_law RX1 53 yX1_place cX1_place 2 (some .int) (ws_ yX1_place cX1_place 2 (some .int)) rX1_place 0 0 1 :=
  cwV 1 hts (lw_V q223 q224 q225 q20 q226) rfl rfl rfl (by decide +kernel) ⟨Nat.le_of_ble_eq_true rfl, Nat.le_of_ble_eq_true rfl⟩
theorem cwLX1_nth {s : State} {args : Array Value} (hts : ∀ w ∈ lw_all, w.before args s = true) : CallW room_1 s args R_law RX1 57 yX1_nth cX1_nth 5 (some .int) (ws_ yX1_nth cX1_nth 5 (some .int)) rX1_nth 0 0 2 :=
  cwV 2 hts (lw_V q227 q228 q229 q20 q230) rfl rfl rfl (by decide +kernel) ⟨Nat.le_of_ble_eq_true rfl, Nat.le_of_ble_eq_true rfl⟩
theorem cwLX1_touched {s : State} {args : Array Value} (hts : ∀ w ∈ lw_all, w.before args s = true) : CallW room_1 s args R_law RX1 61 yX1_touched cX1_touched 7 (some .int) (ws_ yX1_touched cX1_touched 7 (some .int)) rX1_touched 0 0 2 :=
  cwV 2 hts (lw_V q231 q232 q233 q20 q234) rfl rfl rfl (by decide +kernel) ⟨Nat.le_of_ble_eq_true rfl, Nat.le_of_ble_eq_true rfl⟩
section LW
variable {p : Program} {l : Launch} {e : Env} {R : Room} {s : State} {m : MethodId} {args : Array Value} {below : List Frame} {meth : Method} {c : Code} {H : Heap} {locs : List Loc} {cells slots : Nat} {Q : State → Prop}
variable {cc : ByteArray} {pc : Nat} {ls : Array Slot} {rest : List Value} {A : Nat → Prop} {H0 : Heap}
theorem nb_sld (hx : p.tables.exec = Jvm.exec) (hb : c.code = cc) {b L : Nat} {xs : Nat → Int32} (hX : va_X b L xs s H0) (hbl : b < H0.size) (hbA : ¬ A b) (hS : va_S A H0 H locs) {i : Nat} (hi : i < L) (hL : L < 2 ^ 31) (hd : decode cc pc = .ok (.iaload, 1))
    (kk : W p l e R s m args below meth c H locs cells slots Q (F0 m (pc + 1) ls (.int (xs i) :: rest))) : W p l e R s m args below meth c H locs cells slots Q (F0 m pc ls (.int (nI i) :: .ref b :: rest)) :=
  va_sld hx hb hX hbl hbA hS (vp_in_nI hi hL) hd (by rw [nI_clamp (Nat.lt_trans hi hL)]; exact kk)
end LW
theorem cu_more {L i : Nat} (hL : L ≤ 320) (hi : i ≤ 325) (h : ¬ nI L - nI 5 < nI i) : i + 5 ≤ L := by
  rw [fa_lt, pk_sub_toInt (by omega) (by omega), nI_toInt (by omega)] at h
  omega
theorem cu_16 {j : Nat} (h : j < 16) : j = 0 ∨ j = 1 ∨ j = 2 ∨ j = 3 ∨ j = 4 ∨ j = 5 ∨ j = 6 ∨ j = 7 ∨ j = 8 ∨ j = 9 ∨ j = 10 ∨ (11 ≤ j ∧ j < 16) := by omega
end
section
set_option maxHeartbeats 4000000 in
set_option maxRecDepth 100000 in
/-- the law's loop -/
theorem law_loop {p : Program} {l : Launch} {e : Env} {s : State} {m : MethodId} {args : Array Value} {below : List Frame} {meth : Method} {c : Code} {Q : State → Prop} {A : Nat → Prop} {H0 : Heap} {sb Ln : Nat} {xs : Nat → Int32} {D : va_G} {h0 a1 a2 a3 a4 a5 k0 b1 b2 b3 b4 : Nat} {dB dS dN dZ : ClassId} (S : CallFix p m c code 4 s args lw_all R_law) (hX : va_X sb Ln xs s H0) (hbl : sb < H0.size) (hbA : ¬ A sb) (hA : ∀ q : Nat, H0.size ≤ q → A q) (hLn : Ln ≤ 320) (hKx : va_K D vwCl (tX dB dS) s) (hKm : va_K D vwCl (tM dN dZ) s)
    (kend : ∀ (H : Heap) (locs : List Loc) (ls : Array Slot), va_S A H0 H locs → W p l e room_1 s m args below meth c H locs 11 2377 Q (F0 m 477 ls [])) :
    ∀ (n i : Nat) (S0 : Nat → Nat → Bool) (C F L MF ML : Nat → Nat) (mc cx cy : Nat) (Nm Pl : Nat → Nat) (Mk Th : Nat → Bool), i ≤ 325 → Ln + 5 - i < n → cu_XOK (C, F, L, MF, ML, mc, cx, cy) S0 → cu_MOK (Nm, Pl, Mk, Th) S0 → ∀ (H : Heap) (locs : List Loc), va_P D vwCl (wX h0 a1 a2 a3 a4 a5 dB dS C F L MF ML mc cx cy) H → va_P D vwCl (wM k0 b1 b2 b3 b4 dN dZ Nm Pl Mk Th) H → va_D A (wX h0 a1 a2 a3 a4 a5 dB dS C F L MF ML mc cx cy ++ wM k0 b1 b2 b3 b4 dN dZ Nm Pl Mk Th) → va_S A H0 H locs → ∀ ls : Array Slot, lv_has ls 4 [(0, .ref sb), (1, .ref h0), (2, .ref k0), (3, .int (nI i))] → W p l e room_1 s m args below meth c H locs 11 2377 Q (F0 m 18 ls []) := by
  have hx := S.1
  have hb := S.2.1
  have hts := S.2.2.2.2
  intro n
  induction n with
  | zero => intro i S0 C F L MF ML mc cx cy Nm Pl Mk Th hi hm; exact absurd hm (Nat.not_lt_zero _)
  | succ n ih =>
    intro i S0 C F L MF ML mc cx cy Nm Pl Mk Th hi hm hXok hMok H locs hPx hPm hD hS ls hl
    refine lv_iload_n hx hb dL_law_18 rfl (lv_at hl 3 rfl) ?_
    refine lv_aload_n hx hb dL_law_19 rfl (lv_at hl 0 rfl) ?_
    refine va_slen hx hb hX hbl hbA hS dL_law_20 ?_
    refine lv_iconst (v := nI 5) hx hb dL_law_21 (by decide) ?_
    refine lv_isub hx hb dL_law_22 ?_
    refine lv_icmp_gt (tgt := 477) hx hb dL_law_23 (by decide) (fun c0 => ?_) (fun c0 => ?_)
    · exact kend H locs ls hS
    · have hmore := cu_more hLn hi c0
      have next : ∀ (S0 : Nat → Nat → Bool) (C F L MF ML : Nat → Nat) (mc cx cy : Nat) (Nm Pl : Nat → Nat) (Mk Th : Nat → Bool), cu_XOK (C, F, L, MF, ML, mc, cx, cy) S0 → cu_MOK (Nm, Pl, Mk, Th) S0 → ∀ (H : Heap) (locs : List Loc), va_P D vwCl (wX h0 a1 a2 a3 a4 a5 dB dS C F L MF ML mc cx cy) H → va_P D vwCl (wM k0 b1 b2 b3 b4 dN dZ Nm Pl Mk Th) H → va_D A ((wX h0 a1 a2 a3 a4 a5 dB dS C F L MF ML mc cx cy) ++ (wM k0 b1 b2 b3 b4 dN dZ Nm Pl Mk Th)) → va_S A H0 H locs → ∀ ls : Array Slot, lv_has ls 4 [(0, .ref sb), (1, .ref h0), (2, .ref k0), (3, .int (nI i))] → W p l e room_1 s m args below meth c H locs 11 2377 Q (F0 m 471 ls []) := by
        intro S0 C F L MF ML mc cx cy Nm Pl Mk Th hXok hMok H locs hPx hPm hD hS ls hl
        refine lv_iinc (v := nI (i + 5)) (lv' := [(3, .int (nI (i + 5))), (0, .ref sb), (1, .ref h0), (2, .ref k0)]) hx hb dL_law_471 hl (k := 3) rfl (nI_add i 5) (by decide) rfl (fun ls hl => ?_)
        refine lv_goto (tgt := 18) hx hb dL_law_474 (by decide) ?_
        exact ih (i + 5) S0 C F L MF ML mc cx cy Nm Pl Mk Th (by omega) (by omega) hXok hMok H locs hPx hPm hD hS ls (lv_sub hl [1, 2, 3, 0] rfl)
      obtain ⟨hC, hF, hL, hMF, hML, hRX⟩ := id hXok
      obtain ⟨hNm, hPl, hRM⟩ := id hMok
      have hC : ∀ q, C q < 128 := hC
      have hF : ∀ q, F q < 256 := hF
      have hL : ∀ q, L q < 256 := hL
      have hMF : ∀ q, MF q < 256 := hMF
      have hML : ∀ q, ML q < 256 := hML
      have hRX : cu_RX C F L S0 := hRX
      have hNm : ∀ q, Nm q < 256 := hNm
      have hPl : ∀ q, Pl q < 256 := hPl
      have hRM : cu_RM Nm Pl Mk S0 := hRM
      refine lv_aload_n hx hb dL_law_26 rfl (lv_at hl 0 rfl) ?_
      refine lv_iload_n hx hb dL_law_27 rfl (lv_at hl 3 rfl) ?_
      refine nb_sld hx hb hX hbl hbA hS (by omega) (by omega) dL_law_28 ?_
      refine lv_bipush (v := nI 15) hx hb dL_law_29 (by decide) ?_
      refine lv_iand hx hb dL_law_31 ?_
      obtain ⟨j, hj, ej⟩ := pk_andE (xs i) (m := nI 15) 4 (by decide +kernel)
      rw [ej]
      rcases cu_16 (show j < 16 from hj) with rfl | rfl | rfl | rfl | rfl | rfl | rfl | rfl | rfl | rfl | rfl | hj2
      · refine lv_tableIn (off := 60) (tgt := 92) hx hb dL_law_32 (by decide +kernel) (by decide +kernel) (by decide +kernel) (by decide) ?_
        refine lv_aload_n hx hb dL_law_92 rfl (lv_at hl 1 rfl) ?_
        refine lv_aload_n hx hb dL_law_93 rfl (lv_at hl 0 rfl) ?_
        refine lv_iload_n hx hb dL_law_94 rfl (lv_at hl 3 rfl) ?_
        refine lv_iconst (v := nI 1) hx hb dL_law_95 (by decide) ?_
        refine nb_iadd hx hb dL_law_96 ?_
        refine nb_sld hx hb hX hbl hbA hS (by omega) (by omega) dL_law_97 ?_
        refine lv_aload_n hx hb dL_law_98 rfl (lv_at hl 0 rfl) ?_
        refine lv_iload_n hx hb dL_law_99 rfl (lv_at hl 3 rfl) ?_
        refine lv_iconst (v := nI 2) hx hb dL_law_100 (by decide) ?_
        refine nb_iadd hx hb dL_law_101 ?_
        refine nb_sld hx hb hX hbl hbA hS (by omega) (by omega) dL_law_102 ?_
        refine lv_aload_n hx hb dL_law_103 rfl (lv_at hl 0 rfl) ?_
        refine lv_iload_n hx hb dL_law_104 rfl (lv_at hl 3 rfl) ?_
        refine lv_iconst (v := nI 3) hx hb dL_law_105 (by decide) ?_
        refine nb_iadd hx hb dL_law_106 ?_
        refine nb_sld hx hb hX hbl hbA hS (by omega) (by omega) dL_law_107 ?_
        refine lv_if_eq (tgt := 115) hx hb dL_law_108 (by decide) (fun cb => ?_) (fun cb => ?_)
        · refine lv_iconst (v := nI false.toNat) hx hb dL_law_115 (by decide) ?_
          refine cu_icall (wr := (wM k0 b1 b2 b3 b4 dN dZ Nm Pl Mk Th)) (As := [.int (xs (i + 1)), .int (xs (i + 2)), .int (nI false.toNat)]) (rest := []) S (mX0_change l D h0 a1 a2 a3 a4 a5 dB dS C F L MF ML mc cx cy H.size S0 hC hF hL hRX hMF hML (xs (i + 1)) (xs (i + 2)) false) (cwLX0_change hts) (va_recv hKx hPx (ci := 0) (q0 := 0) rfl rfl) hA hKx hPx hPm hD hS rfl hl.1 rfl (Nat.le_of_ble_eq_true rfl) dL_law_116 (Nat.le_of_ble_eq_true rfl) (Nat.le_of_ble_eq_true rfl) (fun r1 u_ H locs hq1 hPx hPm hD hS => ?_)
          obtain ⟨C2, F2, L2, MF2, ML2, mc2, cx2, cy2⟩ := u_
          have hPx : va_P D vwCl (wX h0 a1 a2 a3 a4 a5 dB dS C2 F2 L2 MF2 ML2 mc2 cx2 cy2) H := hPx
          have hPm : va_P D vwCl (wM k0 b1 b2 b3 b4 dN dZ Nm Pl Mk Th) H := hPm
          have hD : va_D A ((wX h0 a1 a2 a3 a4 a5 dB dS C2 F2 L2 MF2 ML2 mc2 cx2 cy2) ++ (wM k0 b1 b2 b3 b4 dN dZ Nm Pl Mk Th)) := hD
          refine lv_aload_n hx hb dL_law_119 rfl (lv_at hl 2 rfl) ?_
          refine lv_aload_n hx hb dL_law_120 rfl (lv_at hl 0 rfl) ?_
          refine lv_iload_n hx hb dL_law_121 rfl (lv_at hl 3 rfl) ?_
          refine lv_iconst (v := nI 1) hx hb dL_law_122 (by decide) ?_
          refine nb_iadd hx hb dL_law_123 ?_
          refine nb_sld hx hb hX hbl hbA hS (by omega) (by omega) dL_law_124 ?_
          refine lv_aload_n hx hb dL_law_125 rfl (lv_at hl 0 rfl) ?_
          refine lv_iload_n hx hb dL_law_126 rfl (lv_at hl 3 rfl) ?_
          refine lv_iconst (v := nI 2) hx hb dL_law_127 (by decide) ?_
          refine nb_iadd hx hb dL_law_128 ?_
          refine nb_sld hx hb hX hbl hbA hS (by omega) (by omega) dL_law_129 ?_
          refine lv_aload_n hx hb dL_law_130 rfl (lv_at hl 0 rfl) ?_
          refine lv_iload_n hx hb dL_law_131 rfl (lv_at hl 3 rfl) ?_
          refine lv_iconst (v := nI 3) hx hb dL_law_132 (by decide) ?_
          refine nb_iadd hx hb dL_law_133 ?_
          refine nb_sld hx hb hX hbl hbA hS (by omega) (by omega) dL_law_134 ?_
          refine lv_if_eq (tgt := 142) hx hb dL_law_135 (by decide) (fun cb2 => ?_) (fun cb2 => ?_)
          · refine lv_iconst (v := nI false.toNat) hx hb dL_law_142 (by decide) ?_
            refine cu_icall (wr := (wX h0 a1 a2 a3 a4 a5 dB dS C2 F2 L2 MF2 ML2 mc2 cx2 cy2)) (As := [.int (xs (i + 1)), .int (xs (i + 2)), .int (nI false.toNat)]) (rest := [.int r1]) S (mX1_change l D k0 b1 b2 b3 b4 dN dZ Nm Pl Mk Th H.size S0 hNm hPl hRM (xs (i + 1)) (xs (i + 2)) false) (cwLX1_change hts) (va_recv hKm hPm (ci := 1) (q0 := 0) rfl rfl) hA hKm hPm hPx (cu_Dswap hD) hS rfl hl.1 rfl (Nat.le_of_ble_eq_true rfl) dL_law_143 (Nat.le_of_ble_eq_true rfl) (Nat.le_of_ble_eq_true rfl) (fun r2 u_ H locs hq2 hPm hPx hD hS => ?_)
            obtain ⟨Nm2, Pl2, Mk2, Th2⟩ := u_
            have hD := cu_Dswap hD
            have hPx : va_P D vwCl (wX h0 a1 a2 a3 a4 a5 dB dS C2 F2 L2 MF2 ML2 mc2 cx2 cy2) H := hPx
            have hPm : va_P D vwCl (wM k0 b1 b2 b3 b4 dN dZ Nm2 Pl2 Mk2 Th2) H := hPm
            have hD : va_D A ((wX h0 a1 a2 a3 a4 a5 dB dS C2 F2 L2 MF2 ML2 mc2 cx2 cy2) ++ (wM k0 b1 b2 b3 b4 dN dZ Nm2 Pl2 Mk2 Th2)) := hD
            refine lv_icmp_eq (tgt := 471) hx hb dL_law_146 (by decide) (fun ce => ?_) (fun ce => ?_)
            · exact next (cu_chg S0 (xs (i + 1)) (xs (i + 2)) false).2 C2 F2 L2 MF2 ML2 mc2 cx2 cy2 Nm2 Pl2 Mk2 Th2 hq1.2 hq2.2 H locs hPx hPm hD hS ls (lv_sub hl [0, 1, 2, 3] rfl)
            · exact absurd (hq1.1.trans hq2.1.symm) ce
          · exact absurd cb cb2
        · refine lv_iconst (v := nI true.toNat) hx hb dL_law_111 (by decide) ?_
          refine lv_goto (tgt := 116) hx hb dL_law_112 (by decide) ?_
          refine cu_icall (wr := (wM k0 b1 b2 b3 b4 dN dZ Nm Pl Mk Th)) (As := [.int (xs (i + 1)), .int (xs (i + 2)), .int (nI true.toNat)]) (rest := []) S (mX0_change l D h0 a1 a2 a3 a4 a5 dB dS C F L MF ML mc cx cy H.size S0 hC hF hL hRX hMF hML (xs (i + 1)) (xs (i + 2)) true) (cwLX0_change hts) (va_recv hKx hPx (ci := 0) (q0 := 0) rfl rfl) hA hKx hPx hPm hD hS rfl hl.1 rfl (Nat.le_of_ble_eq_true rfl) dL_law_116 (Nat.le_of_ble_eq_true rfl) (Nat.le_of_ble_eq_true rfl) (fun r1 u_ H locs hq1 hPx hPm hD hS => ?_)
          obtain ⟨C2, F2, L2, MF2, ML2, mc2, cx2, cy2⟩ := u_
          have hPx : va_P D vwCl (wX h0 a1 a2 a3 a4 a5 dB dS C2 F2 L2 MF2 ML2 mc2 cx2 cy2) H := hPx
          have hPm : va_P D vwCl (wM k0 b1 b2 b3 b4 dN dZ Nm Pl Mk Th) H := hPm
          have hD : va_D A ((wX h0 a1 a2 a3 a4 a5 dB dS C2 F2 L2 MF2 ML2 mc2 cx2 cy2) ++ (wM k0 b1 b2 b3 b4 dN dZ Nm Pl Mk Th)) := hD
          refine lv_aload_n hx hb dL_law_119 rfl (lv_at hl 2 rfl) ?_
          refine lv_aload_n hx hb dL_law_120 rfl (lv_at hl 0 rfl) ?_
          refine lv_iload_n hx hb dL_law_121 rfl (lv_at hl 3 rfl) ?_
          refine lv_iconst (v := nI 1) hx hb dL_law_122 (by decide) ?_
          refine nb_iadd hx hb dL_law_123 ?_
          refine nb_sld hx hb hX hbl hbA hS (by omega) (by omega) dL_law_124 ?_
          refine lv_aload_n hx hb dL_law_125 rfl (lv_at hl 0 rfl) ?_
          refine lv_iload_n hx hb dL_law_126 rfl (lv_at hl 3 rfl) ?_
          refine lv_iconst (v := nI 2) hx hb dL_law_127 (by decide) ?_
          refine nb_iadd hx hb dL_law_128 ?_
          refine nb_sld hx hb hX hbl hbA hS (by omega) (by omega) dL_law_129 ?_
          refine lv_aload_n hx hb dL_law_130 rfl (lv_at hl 0 rfl) ?_
          refine lv_iload_n hx hb dL_law_131 rfl (lv_at hl 3 rfl) ?_
          refine lv_iconst (v := nI 3) hx hb dL_law_132 (by decide) ?_
          refine nb_iadd hx hb dL_law_133 ?_
          refine nb_sld hx hb hX hbl hbA hS (by omega) (by omega) dL_law_134 ?_
          refine lv_if_eq (tgt := 142) hx hb dL_law_135 (by decide) (fun cb2 => ?_) (fun cb2 => ?_)
          · exact absurd cb2 cb
          · refine lv_iconst (v := nI true.toNat) hx hb dL_law_138 (by decide) ?_
            refine lv_goto (tgt := 143) hx hb dL_law_139 (by decide) ?_
            refine cu_icall (wr := (wX h0 a1 a2 a3 a4 a5 dB dS C2 F2 L2 MF2 ML2 mc2 cx2 cy2)) (As := [.int (xs (i + 1)), .int (xs (i + 2)), .int (nI true.toNat)]) (rest := [.int r1]) S (mX1_change l D k0 b1 b2 b3 b4 dN dZ Nm Pl Mk Th H.size S0 hNm hPl hRM (xs (i + 1)) (xs (i + 2)) true) (cwLX1_change hts) (va_recv hKm hPm (ci := 1) (q0 := 0) rfl rfl) hA hKm hPm hPx (cu_Dswap hD) hS rfl hl.1 rfl (Nat.le_of_ble_eq_true rfl) dL_law_143 (Nat.le_of_ble_eq_true rfl) (Nat.le_of_ble_eq_true rfl) (fun r2 u_ H locs hq2 hPm hPx hD hS => ?_)
            obtain ⟨Nm2, Pl2, Mk2, Th2⟩ := u_
            have hD := cu_Dswap hD
            have hPx : va_P D vwCl (wX h0 a1 a2 a3 a4 a5 dB dS C2 F2 L2 MF2 ML2 mc2 cx2 cy2) H := hPx
            have hPm : va_P D vwCl (wM k0 b1 b2 b3 b4 dN dZ Nm2 Pl2 Mk2 Th2) H := hPm
            have hD : va_D A ((wX h0 a1 a2 a3 a4 a5 dB dS C2 F2 L2 MF2 ML2 mc2 cx2 cy2) ++ (wM k0 b1 b2 b3 b4 dN dZ Nm2 Pl2 Mk2 Th2)) := hD
            refine lv_icmp_eq (tgt := 471) hx hb dL_law_146 (by decide) (fun ce => ?_) (fun ce => ?_)
            · exact next (cu_chg S0 (xs (i + 1)) (xs (i + 2)) true).2 C2 F2 L2 MF2 ML2 mc2 cx2 cy2 Nm2 Pl2 Mk2 Th2 hq1.2 hq2.2 H locs hPx hPm hD hS ls (lv_sub hl [0, 1, 2, 3] rfl)
            · exact absurd (hq1.1.trans hq2.1.symm) ce
      · refine lv_tableIn (off := 119) (tgt := 151) hx hb dL_law_32 (by decide +kernel) (by decide +kernel) (by decide +kernel) (by decide) ?_
        refine lv_aload_n hx hb dL_law_151 rfl (lv_at hl 1 rfl) ?_
        refine lv_aload_n hx hb dL_law_152 rfl (lv_at hl 0 rfl) ?_
        refine lv_iload_n hx hb dL_law_153 rfl (lv_at hl 3 rfl) ?_
        refine lv_iconst (v := nI 1) hx hb dL_law_154 (by decide) ?_
        refine nb_iadd hx hb dL_law_155 ?_
        refine nb_sld hx hb hX hbl hbA hS (by omega) (by omega) dL_law_156 ?_
        refine lv_aload_n hx hb dL_law_157 rfl (lv_at hl 0 rfl) ?_
        refine lv_iload_n hx hb dL_law_158 rfl (lv_at hl 3 rfl) ?_
        refine lv_iconst (v := nI 2) hx hb dL_law_159 (by decide) ?_
        refine nb_iadd hx hb dL_law_160 ?_
        refine nb_sld hx hb hX hbl hbA hS (by omega) (by omega) dL_law_161 ?_
        refine lv_aload_n hx hb dL_law_162 rfl (lv_at hl 0 rfl) ?_
        refine lv_iload_n hx hb dL_law_163 rfl (lv_at hl 3 rfl) ?_
        refine lv_iconst (v := nI 3) hx hb dL_law_164 (by decide) ?_
        refine nb_iadd hx hb dL_law_165 ?_
        refine nb_sld hx hb hX hbl hbA hS (by omega) (by omega) dL_law_166 ?_
        refine lv_aload_n hx hb dL_law_167 rfl (lv_at hl 0 rfl) ?_
        refine lv_iload_n hx hb dL_law_168 rfl (lv_at hl 3 rfl) ?_
        refine lv_iconst (v := nI 4) hx hb dL_law_169 (by decide) ?_
        refine nb_iadd hx hb dL_law_170 ?_
        refine nb_sld hx hb hX hbl hbA hS (by omega) (by omega) dL_law_171 ?_
        refine cu_icall (wr := (wM k0 b1 b2 b3 b4 dN dZ Nm Pl Mk Th)) (As := [.int (xs (i + 1)), .int (xs (i + 2)), .int (xs (i + 3)), .int (xs (i + 4))]) (rest := []) S (mX0_combine l D h0 a1 a2 a3 a4 a5 dB dS C F L MF ML mc cx cy H.size S0 hC hF hL hRX hMF hML (xs (i + 1)) (xs (i + 2)) (xs (i + 3)) (xs (i + 4))) (cwLX0_combine hts) (va_recv hKx hPx (ci := 0) (q0 := 0) rfl rfl) hA hKx hPx hPm hD hS rfl hl.1 rfl (Nat.le_of_ble_eq_true rfl) dL_law_172 (Nat.le_of_ble_eq_true rfl) (Nat.le_of_ble_eq_true rfl) (fun r1 u_ H locs hq1 hPx hPm hD hS => ?_)
        obtain ⟨C2, F2, L2, MF2, ML2, mc2, cx2, cy2⟩ := u_
        have hPx : va_P D vwCl (wX h0 a1 a2 a3 a4 a5 dB dS C2 F2 L2 MF2 ML2 mc2 cx2 cy2) H := hPx
        have hPm : va_P D vwCl (wM k0 b1 b2 b3 b4 dN dZ Nm Pl Mk Th) H := hPm
        have hD : va_D A ((wX h0 a1 a2 a3 a4 a5 dB dS C2 F2 L2 MF2 ML2 mc2 cx2 cy2) ++ (wM k0 b1 b2 b3 b4 dN dZ Nm Pl Mk Th)) := hD
        refine lv_aload_n hx hb dL_law_175 rfl (lv_at hl 2 rfl) ?_
        refine lv_aload_n hx hb dL_law_176 rfl (lv_at hl 0 rfl) ?_
        refine lv_iload_n hx hb dL_law_177 rfl (lv_at hl 3 rfl) ?_
        refine lv_iconst (v := nI 1) hx hb dL_law_178 (by decide) ?_
        refine nb_iadd hx hb dL_law_179 ?_
        refine nb_sld hx hb hX hbl hbA hS (by omega) (by omega) dL_law_180 ?_
        refine lv_aload_n hx hb dL_law_181 rfl (lv_at hl 0 rfl) ?_
        refine lv_iload_n hx hb dL_law_182 rfl (lv_at hl 3 rfl) ?_
        refine lv_iconst (v := nI 2) hx hb dL_law_183 (by decide) ?_
        refine nb_iadd hx hb dL_law_184 ?_
        refine nb_sld hx hb hX hbl hbA hS (by omega) (by omega) dL_law_185 ?_
        refine lv_aload_n hx hb dL_law_186 rfl (lv_at hl 0 rfl) ?_
        refine lv_iload_n hx hb dL_law_187 rfl (lv_at hl 3 rfl) ?_
        refine lv_iconst (v := nI 3) hx hb dL_law_188 (by decide) ?_
        refine nb_iadd hx hb dL_law_189 ?_
        refine nb_sld hx hb hX hbl hbA hS (by omega) (by omega) dL_law_190 ?_
        refine lv_aload_n hx hb dL_law_191 rfl (lv_at hl 0 rfl) ?_
        refine lv_iload_n hx hb dL_law_192 rfl (lv_at hl 3 rfl) ?_
        refine lv_iconst (v := nI 4) hx hb dL_law_193 (by decide) ?_
        refine nb_iadd hx hb dL_law_194 ?_
        refine nb_sld hx hb hX hbl hbA hS (by omega) (by omega) dL_law_195 ?_
        refine cu_icall (wr := (wX h0 a1 a2 a3 a4 a5 dB dS C2 F2 L2 MF2 ML2 mc2 cx2 cy2)) (As := [.int (xs (i + 1)), .int (xs (i + 2)), .int (xs (i + 3)), .int (xs (i + 4))]) (rest := [.int r1]) S (mX1_combine l D k0 b1 b2 b3 b4 dN dZ Nm Pl Mk Th H.size S0 hNm hPl hRM (xs (i + 1)) (xs (i + 2)) (xs (i + 3)) (xs (i + 4))) (cwLX1_combine hts) (va_recv hKm hPm (ci := 1) (q0 := 0) rfl rfl) hA hKm hPm hPx (cu_Dswap hD) hS rfl hl.1 rfl (Nat.le_of_ble_eq_true rfl) dL_law_196 (Nat.le_of_ble_eq_true rfl) (Nat.le_of_ble_eq_true rfl) (fun r2 u_ H locs hq2 hPm hPx hD hS => ?_)
        obtain ⟨Nm2, Pl2, Mk2, Th2⟩ := u_
        have hD := cu_Dswap hD
        have hPx : va_P D vwCl (wX h0 a1 a2 a3 a4 a5 dB dS C2 F2 L2 MF2 ML2 mc2 cx2 cy2) H := hPx
        have hPm : va_P D vwCl (wM k0 b1 b2 b3 b4 dN dZ Nm2 Pl2 Mk2 Th2) H := hPm
        have hD : va_D A ((wX h0 a1 a2 a3 a4 a5 dB dS C2 F2 L2 MF2 ML2 mc2 cx2 cy2) ++ (wM k0 b1 b2 b3 b4 dN dZ Nm2 Pl2 Mk2 Th2)) := hD
        refine lv_icmp_eq (tgt := 471) hx hb dL_law_199 (by decide) (fun ce => ?_) (fun ce => ?_)
        · exact next (cu_comb S0 (xs (i + 1)) (xs (i + 2)) (xs (i + 3)) (xs (i + 4))).2 C2 F2 L2 MF2 ML2 mc2 cx2 cy2 Nm2 Pl2 Mk2 Th2 hq1.2 hq2.2 H locs hPx hPm hD hS ls (lv_sub hl [0, 1, 2, 3] rfl)
        · exact absurd (hq1.1.trans hq2.1.symm) ce
      · refine lv_tableIn (off := 172) (tgt := 204) hx hb dL_law_32 (by decide +kernel) (by decide +kernel) (by decide +kernel) (by decide) ?_
        refine lv_aload_n hx hb dL_law_204 rfl (lv_at hl 1 rfl) ?_
        refine lv_aload_n hx hb dL_law_205 rfl (lv_at hl 0 rfl) ?_
        refine lv_iload_n hx hb dL_law_206 rfl (lv_at hl 3 rfl) ?_
        refine lv_iconst (v := nI 1) hx hb dL_law_207 (by decide) ?_
        refine nb_iadd hx hb dL_law_208 ?_
        refine nb_sld hx hb hX hbl hbA hS (by omega) (by omega) dL_law_209 ?_
        refine lv_aload_n hx hb dL_law_210 rfl (lv_at hl 0 rfl) ?_
        refine lv_iload_n hx hb dL_law_211 rfl (lv_at hl 3 rfl) ?_
        refine lv_iconst (v := nI 2) hx hb dL_law_212 (by decide) ?_
        refine nb_iadd hx hb dL_law_213 ?_
        refine nb_sld hx hb hX hbl hbA hS (by omega) (by omega) dL_law_214 ?_
        refine lv_aload_n hx hb dL_law_215 rfl (lv_at hl 0 rfl) ?_
        refine lv_iload_n hx hb dL_law_216 rfl (lv_at hl 3 rfl) ?_
        refine lv_iconst (v := nI 3) hx hb dL_law_217 (by decide) ?_
        refine nb_iadd hx hb dL_law_218 ?_
        refine nb_sld hx hb hX hbl hbA hS (by omega) (by omega) dL_law_219 ?_
        refine cu_rcall (As := [.int (xs (i + 1)), .int (xs (i + 2)), .int (xs (i + 3))]) (rest := []) S (mX0_has l D h0 a1 a2 a3 a4 a5 dB dS C F L MF ML mc cx cy S0 hC hF hL hRX (xs (i + 1)) (xs (i + 2)) (xs (i + 3))) (cwLX0_has hts) (cu_preW (va_recv hKx hPx (ci := 0) (q0 := 0) rfl rfl) hKx hPx) rfl hl.1 rfl (Nat.le_of_ble_eq_true rfl) dL_law_220 (Nat.le_of_ble_eq_true rfl) (Nat.le_of_ble_eq_true rfl) ?_
        refine lv_aload_n hx hb dL_law_223 rfl (lv_at hl 2 rfl) ?_
        refine lv_aload_n hx hb dL_law_224 rfl (lv_at hl 0 rfl) ?_
        refine lv_iload_n hx hb dL_law_225 rfl (lv_at hl 3 rfl) ?_
        refine lv_iconst (v := nI 1) hx hb dL_law_226 (by decide) ?_
        refine nb_iadd hx hb dL_law_227 ?_
        refine nb_sld hx hb hX hbl hbA hS (by omega) (by omega) dL_law_228 ?_
        refine lv_aload_n hx hb dL_law_229 rfl (lv_at hl 0 rfl) ?_
        refine lv_iload_n hx hb dL_law_230 rfl (lv_at hl 3 rfl) ?_
        refine lv_iconst (v := nI 2) hx hb dL_law_231 (by decide) ?_
        refine nb_iadd hx hb dL_law_232 ?_
        refine nb_sld hx hb hX hbl hbA hS (by omega) (by omega) dL_law_233 ?_
        refine lv_aload_n hx hb dL_law_234 rfl (lv_at hl 0 rfl) ?_
        refine lv_iload_n hx hb dL_law_235 rfl (lv_at hl 3 rfl) ?_
        refine lv_iconst (v := nI 3) hx hb dL_law_236 (by decide) ?_
        refine nb_iadd hx hb dL_law_237 ?_
        refine nb_sld hx hb hX hbl hbA hS (by omega) (by omega) dL_law_238 ?_
        refine cu_rcall (As := [.int (xs (i + 1)), .int (xs (i + 2)), .int (xs (i + 3))]) (rest := [.int (nI (cu_has S0 (xs (i + 1)) (xs (i + 2)) (xs (i + 3))).toNat)]) S (mX1_has l D k0 b1 b2 b3 b4 dN dZ Nm Pl Mk Th S0 hNm hPl hRM (xs (i + 1)) (xs (i + 2)) (xs (i + 3))) (cwLX1_has hts) (cu_preW (va_recv hKm hPm (ci := 1) (q0 := 0) rfl rfl) hKm hPm) rfl hl.1 rfl (Nat.le_of_ble_eq_true rfl) dL_law_239 (Nat.le_of_ble_eq_true rfl) (Nat.le_of_ble_eq_true rfl) ?_
        refine lv_icmp_eq (tgt := 471) hx hb dL_law_242 (by decide) (fun ce => ?_) (fun ce => ?_)
        · exact next S0 C F L MF ML mc cx cy Nm Pl Mk Th hXok hMok H locs hPx hPm hD hS ls (lv_sub hl [0, 1, 2, 3] rfl)
        · exact absurd rfl ce
      · refine lv_tableIn (off := 215) (tgt := 247) hx hb dL_law_32 (by decide +kernel) (by decide +kernel) (by decide +kernel) (by decide) ?_
        refine lv_aload_n hx hb dL_law_247 rfl (lv_at hl 1 rfl) ?_
        refine lv_aload_n hx hb dL_law_248 rfl (lv_at hl 0 rfl) ?_
        refine lv_iload_n hx hb dL_law_249 rfl (lv_at hl 3 rfl) ?_
        refine lv_iconst (v := nI 1) hx hb dL_law_250 (by decide) ?_
        refine nb_iadd hx hb dL_law_251 ?_
        refine nb_sld hx hb hX hbl hbA hS (by omega) (by omega) dL_law_252 ?_
        refine cu_rcall (As := [.int (xs (i + 1))]) (rest := []) S (mX0_cells l D h0 a1 a2 a3 a4 a5 dB dS C F L MF ML mc cx cy S0 hC hF hL hRX (xs (i + 1))) (cwLX0_cells hts) (cu_preW (va_recv hKx hPx (ci := 0) (q0 := 0) rfl rfl) hKx hPx) rfl hl.1 rfl (Nat.le_of_ble_eq_true rfl) dL_law_253 (Nat.le_of_ble_eq_true rfl) (Nat.le_of_ble_eq_true rfl) ?_
        refine lv_aload_n hx hb dL_law_256 rfl (lv_at hl 2 rfl) ?_
        refine lv_aload_n hx hb dL_law_257 rfl (lv_at hl 0 rfl) ?_
        refine lv_iload_n hx hb dL_law_258 rfl (lv_at hl 3 rfl) ?_
        refine lv_iconst (v := nI 1) hx hb dL_law_259 (by decide) ?_
        refine nb_iadd hx hb dL_law_260 ?_
        refine nb_sld hx hb hX hbl hbA hS (by omega) (by omega) dL_law_261 ?_
        refine cu_rcall (As := [.int (xs (i + 1))]) (rest := [.int (cu_on (fun a => nI (fb_ct (S0 a) 256)) (xs (i + 1)))]) S (mX1_cells l D k0 b1 b2 b3 b4 dN dZ Nm Pl Mk Th S0 hNm hPl hRM (xs (i + 1))) (cwLX1_cells hts) (cu_preW (va_recv hKm hPm (ci := 1) (q0 := 0) rfl rfl) hKm hPm) rfl hl.1 rfl (Nat.le_of_ble_eq_true rfl) dL_law_262 (Nat.le_of_ble_eq_true rfl) (Nat.le_of_ble_eq_true rfl) ?_
        refine lv_icmp_eq (tgt := 471) hx hb dL_law_265 (by decide) (fun ce => ?_) (fun ce => ?_)
        · exact next S0 C F L MF ML mc cx cy Nm Pl Mk Th hXok hMok H locs hPx hPm hD hS ls (lv_sub hl [0, 1, 2, 3] rfl)
        · exact absurd rfl ce
      · refine lv_tableIn (off := 238) (tgt := 270) hx hb dL_law_32 (by decide +kernel) (by decide +kernel) (by decide +kernel) (by decide) ?_
        refine lv_aload_n hx hb dL_law_270 rfl (lv_at hl 1 rfl) ?_
        refine lv_aload_n hx hb dL_law_271 rfl (lv_at hl 0 rfl) ?_
        refine lv_iload_n hx hb dL_law_272 rfl (lv_at hl 3 rfl) ?_
        refine lv_iconst (v := nI 1) hx hb dL_law_273 (by decide) ?_
        refine nb_iadd hx hb dL_law_274 ?_
        refine nb_sld hx hb hX hbl hbA hS (by omega) (by omega) dL_law_275 ?_
        refine cu_rcall (As := [.int (xs (i + 1))]) (rest := []) S (mX0_stretches l D h0 a1 a2 a3 a4 a5 dB dS C F L MF ML mc cx cy S0 hC hF hL hRX (xs (i + 1))) (cwLX0_stretches hts) (cu_preW (va_recv hKx hPx (ci := 0) (q0 := 0) rfl rfl) hKx hPx) rfl hl.1 rfl (Nat.le_of_ble_eq_true rfl) dL_law_276 (Nat.le_of_ble_eq_true rfl) (Nat.le_of_ble_eq_true rfl) ?_
        refine lv_aload_n hx hb dL_law_279 rfl (lv_at hl 2 rfl) ?_
        refine lv_aload_n hx hb dL_law_280 rfl (lv_at hl 0 rfl) ?_
        refine lv_iload_n hx hb dL_law_281 rfl (lv_at hl 3 rfl) ?_
        refine lv_iconst (v := nI 1) hx hb dL_law_282 (by decide) ?_
        refine nb_iadd hx hb dL_law_283 ?_
        refine nb_sld hx hb hX hbl hbA hS (by omega) (by omega) dL_law_284 ?_
        refine cu_icall (wr := (wX h0 a1 a2 a3 a4 a5 dB dS C F L MF ML mc cx cy)) (As := [.int (xs (i + 1))]) (rest := [.int (cu_on (fun a => nI (cu_runs (S0 a))) (xs (i + 1)))]) S (mX1_stretches l D k0 b1 b2 b3 b4 dN dZ Nm Pl Mk Th H.size S0 hNm hPl hRM (xs (i + 1))) (cwLX1_stretches hts) (va_recv hKm hPm (ci := 1) (q0 := 0) rfl rfl) hA hKm hPm hPx (cu_Dswap hD) hS rfl hl.1 rfl (Nat.le_of_ble_eq_true rfl) dL_law_285 (Nat.le_of_ble_eq_true rfl) (Nat.le_of_ble_eq_true rfl) (fun r2 u_ H locs hq2 hPm hPx hD hS => ?_)
        obtain ⟨hq2, Th2, rfl⟩ := hq2
        have hD := cu_Dswap hD
        have hPx : va_P D vwCl (wX h0 a1 a2 a3 a4 a5 dB dS C F L MF ML mc cx cy) H := hPx
        have hPm : va_P D vwCl (wM k0 b1 b2 b3 b4 dN dZ Nm Pl Mk Th2) H := hPm
        have hD : va_D A ((wX h0 a1 a2 a3 a4 a5 dB dS C F L MF ML mc cx cy) ++ (wM k0 b1 b2 b3 b4 dN dZ Nm Pl Mk Th2)) := hD
        refine lv_icmp_eq (tgt := 471) hx hb dL_law_288 (by decide) (fun ce => ?_) (fun ce => ?_)
        · exact next S0 C F L MF ML mc cx cy Nm Pl Mk Th2 hXok hMok H locs hPx hPm hD hS ls (lv_sub hl [0, 1, 2, 3] rfl)
        · exact absurd hq2.symm ce
      · refine lv_tableIn (off := 261) (tgt := 293) hx hb dL_law_32 (by decide +kernel) (by decide +kernel) (by decide +kernel) (by decide) ?_
        refine lv_aload_n hx hb dL_law_293 rfl (lv_at hl 1 rfl) ?_
        refine lv_aload_n hx hb dL_law_294 rfl (lv_at hl 0 rfl) ?_
        refine lv_iload_n hx hb dL_law_295 rfl (lv_at hl 3 rfl) ?_
        refine lv_iconst (v := nI 1) hx hb dL_law_296 (by decide) ?_
        refine nb_iadd hx hb dL_law_297 ?_
        refine nb_sld hx hb hX hbl hbA hS (by omega) (by omega) dL_law_298 ?_
        refine cu_rcall (As := [.int (xs (i + 1))]) (rest := []) S (mX0_pieces l D h0 a1 a2 a3 a4 a5 dB dS C F L MF ML mc cx cy S0 hC hF hL hRX (xs (i + 1))) (cwLX0_pieces hts) (cu_preW (va_recv hKx hPx (ci := 0) (q0 := 0) rfl rfl) hKx hPx) rfl hl.1 rfl (Nat.le_of_ble_eq_true rfl) dL_law_299 (Nat.le_of_ble_eq_true rfl) (Nat.le_of_ble_eq_true rfl) ?_
        refine lv_aload_n hx hb dL_law_302 rfl (lv_at hl 2 rfl) ?_
        refine lv_aload_n hx hb dL_law_303 rfl (lv_at hl 0 rfl) ?_
        refine lv_iload_n hx hb dL_law_304 rfl (lv_at hl 3 rfl) ?_
        refine lv_iconst (v := nI 1) hx hb dL_law_305 (by decide) ?_
        refine nb_iadd hx hb dL_law_306 ?_
        refine nb_sld hx hb hX hbl hbA hS (by omega) (by omega) dL_law_307 ?_
        refine cu_rcall (As := [.int (xs (i + 1))]) (rest := [.int (cu_on (fun a => nI (fb_ct (cu_ps (S0 a)) 256)) (xs (i + 1)))]) S (mX1_pieces l D k0 b1 b2 b3 b4 dN dZ Nm Pl Mk Th S0 hNm hPl hRM (xs (i + 1))) (cwLX1_pieces hts) (cu_preW (va_recv hKm hPm (ci := 1) (q0 := 0) rfl rfl) hKm hPm) rfl hl.1 rfl (Nat.le_of_ble_eq_true rfl) dL_law_308 (Nat.le_of_ble_eq_true rfl) (Nat.le_of_ble_eq_true rfl) ?_
        refine lv_icmp_eq (tgt := 471) hx hb dL_law_311 (by decide) (fun ce => ?_) (fun ce => ?_)
        · exact next S0 C F L MF ML mc cx cy Nm Pl Mk Th hXok hMok H locs hPx hPm hD hS ls (lv_sub hl [0, 1, 2, 3] rfl)
        · exact absurd rfl ce
      · refine lv_tableIn (off := 284) (tgt := 316) hx hb dL_law_32 (by decide +kernel) (by decide +kernel) (by decide +kernel) (by decide) ?_
        refine lv_aload_n hx hb dL_law_316 rfl (lv_at hl 1 rfl) ?_
        refine lv_aload_n hx hb dL_law_317 rfl (lv_at hl 0 rfl) ?_
        refine lv_iload_n hx hb dL_law_318 rfl (lv_at hl 3 rfl) ?_
        refine lv_iconst (v := nI 1) hx hb dL_law_319 (by decide) ?_
        refine nb_iadd hx hb dL_law_320 ?_
        refine nb_sld hx hb hX hbl hbA hS (by omega) (by omega) dL_law_321 ?_
        refine lv_aload_n hx hb dL_law_322 rfl (lv_at hl 0 rfl) ?_
        refine lv_iload_n hx hb dL_law_323 rfl (lv_at hl 3 rfl) ?_
        refine lv_iconst (v := nI 2) hx hb dL_law_324 (by decide) ?_
        refine nb_iadd hx hb dL_law_325 ?_
        refine nb_sld hx hb hX hbl hbA hS (by omega) (by omega) dL_law_326 ?_
        refine cu_rcall (As := [.int (xs (i + 1)), .int (xs (i + 2))]) (rest := []) S (mX0_piece l D h0 a1 a2 a3 a4 a5 dB dS C F L MF ML mc cx cy S0 hC hF hL hRX (xs (i + 1)) (xs (i + 2))) (cwLX0_piece hts) (cu_preW (va_recv hKx hPx (ci := 0) (q0 := 0) rfl rfl) hKx hPx) rfl hl.1 rfl (Nat.le_of_ble_eq_true rfl) dL_law_327 (Nat.le_of_ble_eq_true rfl) (Nat.le_of_ble_eq_true rfl) ?_
        refine lv_aload_n hx hb dL_law_330 rfl (lv_at hl 2 rfl) ?_
        refine lv_aload_n hx hb dL_law_331 rfl (lv_at hl 0 rfl) ?_
        refine lv_iload_n hx hb dL_law_332 rfl (lv_at hl 3 rfl) ?_
        refine lv_iconst (v := nI 1) hx hb dL_law_333 (by decide) ?_
        refine nb_iadd hx hb dL_law_334 ?_
        refine nb_sld hx hb hX hbl hbA hS (by omega) (by omega) dL_law_335 ?_
        refine lv_aload_n hx hb dL_law_336 rfl (lv_at hl 0 rfl) ?_
        refine lv_iload_n hx hb dL_law_337 rfl (lv_at hl 3 rfl) ?_
        refine lv_iconst (v := nI 2) hx hb dL_law_338 (by decide) ?_
        refine nb_iadd hx hb dL_law_339 ?_
        refine nb_sld hx hb hX hbl hbA hS (by omega) (by omega) dL_law_340 ?_
        refine cu_rcall (As := [.int (xs (i + 1)), .int (xs (i + 2))]) (rest := [.int (cu_on (fun a => cu_sel (cu_ps (S0 a)) (fun n => nI (256 * cu_lev (S0 a) n + n)) (xs (i + 2))) (xs (i + 1)))]) S (mX1_piece l D k0 b1 b2 b3 b4 dN dZ Nm Pl Mk Th S0 hNm hPl hRM (xs (i + 1)) (xs (i + 2))) (cwLX1_piece hts) (cu_preW (va_recv hKm hPm (ci := 1) (q0 := 0) rfl rfl) hKm hPm) rfl hl.1 rfl (Nat.le_of_ble_eq_true rfl) dL_law_341 (Nat.le_of_ble_eq_true rfl) (Nat.le_of_ble_eq_true rfl) ?_
        refine lv_icmp_eq (tgt := 471) hx hb dL_law_344 (by decide) (fun ce => ?_) (fun ce => ?_)
        · exact next S0 C F L MF ML mc cx cy Nm Pl Mk Th hXok hMok H locs hPx hPm hD hS ls (lv_sub hl [0, 1, 2, 3] rfl)
        · exact absurd rfl ce
      · refine lv_tableIn (off := 317) (tgt := 349) hx hb dL_law_32 (by decide +kernel) (by decide +kernel) (by decide +kernel) (by decide) ?_
        refine lv_aload_n hx hb dL_law_349 rfl (lv_at hl 1 rfl) ?_
        refine lv_aload_n hx hb dL_law_350 rfl (lv_at hl 0 rfl) ?_
        refine lv_iload_n hx hb dL_law_351 rfl (lv_at hl 3 rfl) ?_
        refine lv_iconst (v := nI 1) hx hb dL_law_352 (by decide) ?_
        refine nb_iadd hx hb dL_law_353 ?_
        refine nb_sld hx hb hX hbl hbA hS (by omega) (by omega) dL_law_354 ?_
        refine lv_aload_n hx hb dL_law_355 rfl (lv_at hl 0 rfl) ?_
        refine lv_iload_n hx hb dL_law_356 rfl (lv_at hl 3 rfl) ?_
        refine lv_iconst (v := nI 2) hx hb dL_law_357 (by decide) ?_
        refine nb_iadd hx hb dL_law_358 ?_
        refine nb_sld hx hb hX hbl hbA hS (by omega) (by omega) dL_law_359 ?_
        refine cu_rcall (As := [.int (xs (i + 1)), .int (xs (i + 2))]) (rest := []) S (mX0_number l D h0 a1 a2 a3 a4 a5 dB dS C F L MF ML mc cx cy S0 hC hF hL hRX (xs (i + 1)) (xs (i + 2))) (cwLX0_number hts) (cu_preW (va_recv hKx hPx (ci := 0) (q0 := 0) rfl rfl) hKx hPx) rfl hl.1 rfl (Nat.le_of_ble_eq_true rfl) dL_law_360 (Nat.le_of_ble_eq_true rfl) (Nat.le_of_ble_eq_true rfl) ?_
        refine lv_aload_n hx hb dL_law_363 rfl (lv_at hl 2 rfl) ?_
        refine lv_aload_n hx hb dL_law_364 rfl (lv_at hl 0 rfl) ?_
        refine lv_iload_n hx hb dL_law_365 rfl (lv_at hl 3 rfl) ?_
        refine lv_iconst (v := nI 1) hx hb dL_law_366 (by decide) ?_
        refine nb_iadd hx hb dL_law_367 ?_
        refine nb_sld hx hb hX hbl hbA hS (by omega) (by omega) dL_law_368 ?_
        refine lv_aload_n hx hb dL_law_369 rfl (lv_at hl 0 rfl) ?_
        refine lv_iload_n hx hb dL_law_370 rfl (lv_at hl 3 rfl) ?_
        refine lv_iconst (v := nI 2) hx hb dL_law_371 (by decide) ?_
        refine nb_iadd hx hb dL_law_372 ?_
        refine nb_sld hx hb hX hbl hbA hS (by omega) (by omega) dL_law_373 ?_
        refine cu_rcall (As := [.int (xs (i + 1)), .int (xs (i + 2))]) (rest := [.int (cu_cnum (xs (i + 1)) (xs (i + 2)))]) S (mX1_number l D k0 b1 b2 b3 b4 dN dZ Nm Pl Mk Th S0 hNm hPl hRM (xs (i + 1)) (xs (i + 2))) (cwLX1_number hts) (cu_preW (va_recv hKm hPm (ci := 1) (q0 := 0) rfl rfl) hKm hPm) rfl hl.1 rfl (Nat.le_of_ble_eq_true rfl) dL_law_374 (Nat.le_of_ble_eq_true rfl) (Nat.le_of_ble_eq_true rfl) ?_
        refine lv_icmp_eq (tgt := 471) hx hb dL_law_377 (by decide) (fun ce => ?_) (fun ce => ?_)
        · exact next S0 C F L MF ML mc cx cy Nm Pl Mk Th hXok hMok H locs hPx hPm hD hS ls (lv_sub hl [0, 1, 2, 3] rfl)
        · exact absurd rfl ce
      · refine lv_tableIn (off := 350) (tgt := 382) hx hb dL_law_32 (by decide +kernel) (by decide +kernel) (by decide +kernel) (by decide) ?_
        refine lv_aload_n hx hb dL_law_382 rfl (lv_at hl 1 rfl) ?_
        refine lv_aload_n hx hb dL_law_383 rfl (lv_at hl 0 rfl) ?_
        refine lv_iload_n hx hb dL_law_384 rfl (lv_at hl 3 rfl) ?_
        refine lv_iconst (v := nI 1) hx hb dL_law_385 (by decide) ?_
        refine nb_iadd hx hb dL_law_386 ?_
        refine nb_sld hx hb hX hbl hbA hS (by omega) (by omega) dL_law_387 ?_
        refine cu_icall (wr := (wM k0 b1 b2 b3 b4 dN dZ Nm Pl Mk Th)) (As := [.int (xs (i + 1))]) (rest := []) S (mX0_place l D h0 a1 a2 a3 a4 a5 dB dS C F L MF ML mc cx cy H.size (xs (i + 1))) (cwLX0_place hts) (va_recv hKx hPx (ci := 0) (q0 := 0) rfl rfl) hA hKx hPx hPm hD hS rfl hl.1 rfl (Nat.le_of_ble_eq_true rfl) dL_law_388 (Nat.le_of_ble_eq_true rfl) (Nat.le_of_ble_eq_true rfl) (fun r1 u_ H locs hq1 hPx hPm hD hS => ?_)
        obtain ⟨hq1, cx2, cy2, rfl⟩ := hq1
        have hPx : va_P D vwCl (wX h0 a1 a2 a3 a4 a5 dB dS C F L MF ML mc cx2 cy2) H := hPx
        have hPm : va_P D vwCl (wM k0 b1 b2 b3 b4 dN dZ Nm Pl Mk Th) H := hPm
        have hD : va_D A ((wX h0 a1 a2 a3 a4 a5 dB dS C F L MF ML mc cx2 cy2) ++ (wM k0 b1 b2 b3 b4 dN dZ Nm Pl Mk Th)) := hD
        refine lv_aload_n hx hb dL_law_391 rfl (lv_at hl 2 rfl) ?_
        refine lv_aload_n hx hb dL_law_392 rfl (lv_at hl 0 rfl) ?_
        refine lv_iload_n hx hb dL_law_393 rfl (lv_at hl 3 rfl) ?_
        refine lv_iconst (v := nI 1) hx hb dL_law_394 (by decide) ?_
        refine nb_iadd hx hb dL_law_395 ?_
        refine nb_sld hx hb hX hbl hbA hS (by omega) (by omega) dL_law_396 ?_
        refine cu_rcall (As := [.int (xs (i + 1))]) (rest := [.int r1]) S (mX1_place l D k0 b1 b2 b3 b4 dN dZ Nm Pl Mk Th S0 hNm hPl hRM (xs (i + 1))) (cwLX1_place hts) (cu_preW (va_recv hKm hPm (ci := 1) (q0 := 0) rfl rfl) hKm hPm) rfl hl.1 rfl (Nat.le_of_ble_eq_true rfl) dL_law_397 (Nat.le_of_ble_eq_true rfl) (Nat.le_of_ble_eq_true rfl) ?_
        refine lv_icmp_eq (tgt := 471) hx hb dL_law_400 (by decide) (fun ce => ?_) (fun ce => ?_)
        · exact next S0 C F L MF ML mc cx2 cy2 Nm Pl Mk Th hXok hMok H locs hPx hPm hD hS ls (lv_sub hl [0, 1, 2, 3] rfl)
        · exact absurd hq1 ce
      · refine lv_tableIn (off := 373) (tgt := 405) hx hb dL_law_32 (by decide +kernel) (by decide +kernel) (by decide +kernel) (by decide) ?_
        refine lv_aload_n hx hb dL_law_405 rfl (lv_at hl 1 rfl) ?_
        refine lv_aload_n hx hb dL_law_406 rfl (lv_at hl 0 rfl) ?_
        refine lv_iload_n hx hb dL_law_407 rfl (lv_at hl 3 rfl) ?_
        refine lv_iconst (v := nI 1) hx hb dL_law_408 (by decide) ?_
        refine nb_iadd hx hb dL_law_409 ?_
        refine nb_sld hx hb hX hbl hbA hS (by omega) (by omega) dL_law_410 ?_
        refine lv_aload_n hx hb dL_law_411 rfl (lv_at hl 0 rfl) ?_
        refine lv_iload_n hx hb dL_law_412 rfl (lv_at hl 3 rfl) ?_
        refine lv_iconst (v := nI 2) hx hb dL_law_413 (by decide) ?_
        refine nb_iadd hx hb dL_law_414 ?_
        refine nb_sld hx hb hX hbl hbA hS (by omega) (by omega) dL_law_415 ?_
        refine cu_icall (wr := (wM k0 b1 b2 b3 b4 dN dZ Nm Pl Mk Th)) (As := [.int (xs (i + 1)), .int (xs (i + 2))]) (rest := []) S (mX0_nth l D h0 a1 a2 a3 a4 a5 dB dS C F L MF ML mc cx cy H.size S0 hC hF hL hRX (xs (i + 1)) (xs (i + 2))) (cwLX0_nth hts) (va_recv hKx hPx (ci := 0) (q0 := 0) rfl rfl) hA hKx hPx hPm hD hS rfl hl.1 rfl (Nat.le_of_ble_eq_true rfl) dL_law_416 (Nat.le_of_ble_eq_true rfl) (Nat.le_of_ble_eq_true rfl) (fun r1 u_ H locs hq1 hPx hPm hD hS => ?_)
        obtain ⟨hq1, cx2, cy2, rfl⟩ := hq1
        have hPx : va_P D vwCl (wX h0 a1 a2 a3 a4 a5 dB dS C F L MF ML mc cx2 cy2) H := hPx
        have hPm : va_P D vwCl (wM k0 b1 b2 b3 b4 dN dZ Nm Pl Mk Th) H := hPm
        have hD : va_D A ((wX h0 a1 a2 a3 a4 a5 dB dS C F L MF ML mc cx2 cy2) ++ (wM k0 b1 b2 b3 b4 dN dZ Nm Pl Mk Th)) := hD
        refine lv_aload_n hx hb dL_law_419 rfl (lv_at hl 2 rfl) ?_
        refine lv_aload_n hx hb dL_law_420 rfl (lv_at hl 0 rfl) ?_
        refine lv_iload_n hx hb dL_law_421 rfl (lv_at hl 3 rfl) ?_
        refine lv_iconst (v := nI 1) hx hb dL_law_422 (by decide) ?_
        refine nb_iadd hx hb dL_law_423 ?_
        refine nb_sld hx hb hX hbl hbA hS (by omega) (by omega) dL_law_424 ?_
        refine lv_aload_n hx hb dL_law_425 rfl (lv_at hl 0 rfl) ?_
        refine lv_iload_n hx hb dL_law_426 rfl (lv_at hl 3 rfl) ?_
        refine lv_iconst (v := nI 2) hx hb dL_law_427 (by decide) ?_
        refine nb_iadd hx hb dL_law_428 ?_
        refine nb_sld hx hb hX hbl hbA hS (by omega) (by omega) dL_law_429 ?_
        refine cu_rcall (As := [.int (xs (i + 1)), .int (xs (i + 2))]) (rest := [.int r1]) S (mX1_nth l D k0 b1 b2 b3 b4 dN dZ Nm Pl Mk Th S0 hNm hPl hRM (xs (i + 1)) (xs (i + 2))) (cwLX1_nth hts) (cu_preW (va_recv hKm hPm (ci := 1) (q0 := 0) rfl rfl) hKm hPm) rfl hl.1 rfl (Nat.le_of_ble_eq_true rfl) dL_law_430 (Nat.le_of_ble_eq_true rfl) (Nat.le_of_ble_eq_true rfl) ?_
        refine lv_icmp_eq (tgt := 471) hx hb dL_law_433 (by decide) (fun ce => ?_) (fun ce => ?_)
        · exact next S0 C F L MF ML mc cx2 cy2 Nm Pl Mk Th hXok hMok H locs hPx hPm hD hS ls (lv_sub hl [0, 1, 2, 3] rfl)
        · exact absurd hq1 ce
      · refine lv_tableIn (off := 406) (tgt := 438) hx hb dL_law_32 (by decide +kernel) (by decide +kernel) (by decide +kernel) (by decide) ?_
        refine lv_aload_n hx hb dL_law_438 rfl (lv_at hl 1 rfl) ?_
        refine lv_aload_n hx hb dL_law_439 rfl (lv_at hl 0 rfl) ?_
        refine lv_iload_n hx hb dL_law_440 rfl (lv_at hl 3 rfl) ?_
        refine lv_iconst (v := nI 1) hx hb dL_law_441 (by decide) ?_
        refine nb_iadd hx hb dL_law_442 ?_
        refine nb_sld hx hb hX hbl hbA hS (by omega) (by omega) dL_law_443 ?_
        refine lv_aload_n hx hb dL_law_444 rfl (lv_at hl 0 rfl) ?_
        refine lv_iload_n hx hb dL_law_445 rfl (lv_at hl 3 rfl) ?_
        refine lv_iconst (v := nI 2) hx hb dL_law_446 (by decide) ?_
        refine nb_iadd hx hb dL_law_447 ?_
        refine nb_sld hx hb hX hbl hbA hS (by omega) (by omega) dL_law_448 ?_
        refine cu_rcall (As := [.int (xs (i + 1)), .int (xs (i + 2))]) (rest := []) S (mX0_touched l D h0 a1 a2 a3 a4 a5 dB dS C F L MF ML mc cx cy S0 hC hF hL hRX (xs (i + 1)) (xs (i + 2))) (cwLX0_touched hts) (cu_preW (va_recv hKx hPx (ci := 0) (q0 := 0) rfl rfl) hKx hPx) rfl hl.1 rfl (Nat.le_of_ble_eq_true rfl) dL_law_449 (Nat.le_of_ble_eq_true rfl) (Nat.le_of_ble_eq_true rfl) ?_
        refine lv_aload_n hx hb dL_law_452 rfl (lv_at hl 2 rfl) ?_
        refine lv_aload_n hx hb dL_law_453 rfl (lv_at hl 0 rfl) ?_
        refine lv_iload_n hx hb dL_law_454 rfl (lv_at hl 3 rfl) ?_
        refine lv_iconst (v := nI 1) hx hb dL_law_455 (by decide) ?_
        refine nb_iadd hx hb dL_law_456 ?_
        refine nb_sld hx hb hX hbl hbA hS (by omega) (by omega) dL_law_457 ?_
        refine lv_aload_n hx hb dL_law_458 rfl (lv_at hl 0 rfl) ?_
        refine lv_iload_n hx hb dL_law_459 rfl (lv_at hl 3 rfl) ?_
        refine lv_iconst (v := nI 2) hx hb dL_law_460 (by decide) ?_
        refine nb_iadd hx hb dL_law_461 ?_
        refine nb_sld hx hb hX hbl hbA hS (by omega) (by omega) dL_law_462 ?_
        refine cu_rcall (As := [.int (xs (i + 1)), .int (xs (i + 2))]) (rest := [.int (cu_on (fun a => cu_lv (fun v => nI (fb_ct (cu_fb (S0 a) (cu_sz v)) 256)) (xs (i + 2))) (xs (i + 1)))]) S (mX1_touched l D k0 b1 b2 b3 b4 dN dZ Nm Pl Mk Th S0 hNm hPl hRM (fun a ha n hn => (hRX a ha).2.big hn) (xs (i + 1)) (xs (i + 2))) (cwLX1_touched hts) (cu_preW (va_recv hKm hPm (ci := 1) (q0 := 0) rfl rfl) hKm hPm) rfl hl.1 rfl (Nat.le_of_ble_eq_true rfl) dL_law_463 (Nat.le_of_ble_eq_true rfl) (Nat.le_of_ble_eq_true rfl) ?_
        refine lv_icmp_eq (tgt := 471) hx hb dL_law_466 (by decide) (fun ce => ?_) (fun ce => ?_)
        · exact next S0 C F L MF ML mc cx cy Nm Pl Mk Th hXok hMok H locs hPx hPm hD hS ls (lv_sub hl [0, 1, 2, 3] rfl)
        · exact absurd rfl ce
      · refine lv_tableOut (tgt := 471) hx hb dL_law_32 (Or.inr (by rw [nI_toInt (by omega)]; omega)) (by decide) ?_
        exact next S0 C F L MF ML mc cx cy Nm Pl Mk Th hXok hMok H locs hPx hPm hD hS ls (lv_sub hl [0, 1, 2, 3] rfl)
end
section
set_option maxHeartbeats 4000000 in
set_option maxRecDepth 100000 in
/-- YOUR PART: from the entry, for every script of at most 320 ints, the law comes to its end with true -/
theorem whole_start {p : Program} {e : Env} {s : State} {m : MethodId} {below : List Frame} {meth : Method} {c : Code} (l : Launch) {b L : Nat} {xs : Nat → Int32} (hL : L ≤ 320) (C0 : lw_At p s m meth c b L xs) : W p l e room_1 s m #[Value.ref b] below meth c s.heap [] 0 0 (lw_Z below #[Value.ref b] s) (entryFrame m ([Value.ref b] : List Value).toArray 4) := by
  obtain ⟨hx, hb, hr, hml, hown, hts0, hX, hbl, hlocks, hgv⟩ := id C0
  have hts : ∀ w ∈ lw_all, w.before #[Value.ref b] s = true := fun w h => hts0 w (lw_all_tbl h)
  have S : CallFix p m c code 4 s #[Value.ref b] lw_all R_law := ⟨hx, hb, hml, hown, hts⟩
  have hbA : ¬ (fun q : Nat => s.heap.size ≤ q) b := Nat.not_le.mpr hbl
  generalize hAe : (fun q : Nat => s.heap.size ≤ q) = A at hbA
  have hA : ∀ q : Nat, s.heap.size ≤ q → A q := fun q h => by rw [← hAe]; exact h
  have hAf : ∀ q : Nat, A q → s.heap.size ≤ q := fun q h => by rw [← hAe] at h; exact h
  obtain ⟨c0_, iS0, hKn0⟩ := u_known (C := RX0) (T := TX0) (N := 8) (n := 8) hts0 (fun w h => lw_all_tbl (in_X0 w h)) (hts _ q22)
  obtain ⟨c1_, iS1, hKn1⟩ := u_known (C := RX1) (T := TX1) (N := 4) (n := 4) hts0 (fun w h => lw_all_tbl (in_X1 w h)) (hts _ q134)
  obtain ⟨D, hKc⟩ : ∃ D : va_G, ∀ (k : Nat) (q : vw_C), vwCl[k]? = some q → u_Kn s q.1 q.2.1 q.2.2 (D.1 k) (D.2 k) := by
    refine ⟨(fun k => if k = 0 then c0_ else c1_, fun k => if k = 0 then iS0 else iS1), ?_⟩
    intro k q hq
    match k, hq with
    | 0, hq => cases hq; exact hKn0
    | 1, hq => cases hq; exact hKn1
    | k + 2, hq => simp [vwCl] at hq
  have hS : va_S A s.heap s.heap [] := va_S.rf
  have hK : va_K D vwCl [] s := ⟨hKc, fun k q h => by simp at h⟩
  have hP : va_P D vwCl [] s.heap := fun k q h => by simp at h
  have hD : va_D A [] := ⟨fun i j p q h => by simp at h, fun k q h => by simp at h⟩
  have hl := lv_entry ([.ref b]) (n := 4) (Nat.le_of_ble_eq_true rfl)
  rw [lg_entry_eq]
  generalize (lg_sl ([.ref b]) ++ List.replicate (4 - (lg_sl ([.ref b])).length) Slot.unset).toArray = ls at hl ⊢
  have hl : lv_has ls 4 [(0, .ref b)] := hl
  refine va_new (ci := 0) (fs := fX0) (C := RX0) (T := TX0) (N := 8) hx hb hts in_X0 tyX0 tyX0_ok hown (hts _ q21) (hts _ q22) (hts _ q19) hK hP hD hS hA rfl (fun j hj => by rcases (show j = 0 ∨ j = 1 ∨ j = 2 ∨ j = 3 ∨ j = 4 ∨ j = 5 ∨ j = 6 ∨ j = 7 by omega) with rfl | rfl | rfl | rfl | rfl | rfl | rfl | rfl <;> rfl) (Nat.le_of_ble_eq_true rfl) (Nat.le_of_ble_eq_true rfl) dL_law_0 (fun h0 H hP hD hS => ?_)
  have hP : va_P D vwCl (nX h0) H := hP
  have hD : va_D A (nX h0) := hD
  refine W.widen (k := 1) (n := 8) (Nat.le_of_ble_eq_true rfl) (Nat.le_of_ble_eq_true rfl) ?_
  refine lv_dup hx hb dL_law_3 rfl ?_
  have hFc := va_free (wc := nX h0) hD hS hA [0] rfl
  refine va_callv (va_runI (As := []) (rest := [.ref h0]) S (mX0_init l D h0 H.size) (cwI 0 hts (lw_meth q25) rfl rfl rfl (hts _ q19) (hts _ q23) (hts _ q24) rfl (by decide +kernel) ⟨(Nat.le_of_ble_eq_true rfl), (Nat.le_of_ble_eq_true rfl)⟩) ⟨fun a U g mk q => ⟨q.1, q.2.1, q.2.2.1, va_K.moved (u := U) (U := U.calling g mk a) (Vm.Alike.refl U.vm) q.2.2.2.1, q.2.2.2.2⟩, fun U hU hW => ⟨rfl, by rw [hU], by rw [hU]; exact hP, va_K.moved hW.alike hK, hD.weaken (fun _ _ _ _ => trivial)⟩⟩ rfl rfl hl.1 rfl (lv_room (Nat.le_of_ble_eq_true rfl)) dL_law_4 ⟨(Nat.le_of_ble_eq_true rfl), (Nat.le_of_ble_eq_true rfl)⟩) hS (fun q _ h => hFc q h) hFc (fun u t H1 locs ht hvm hw hB hz1 hk1 hS1 => ?_)
  obtain ⟨a1, a2, a3, a4, a5, dB, dS⟩ := u
  obtain ⟨hPx, hKx, hD1⟩ := hB
  rw [ht] at hPx
  have hKx : va_K D vwCl (tX dB dS) s := va_K.moved hvm.symm hKx
  have hPx : va_P D vwCl (wX h0 a1 a2 a3 a4 a5 dB dS (fun _ => 0) (fun _ => 0) (fun _ => 0) (fun _ => 0) (fun _ => 0) 0 0 0) H1 := hPx
  have hDx : va_D A (wX h0 a1 a2 a3 a4 a5 dB dS (fun _ => 0) (fun _ => 0) (fun _ => 0) (fun _ => 0) (fun _ => 0) 0 0 0) := hD1.weaken (fun k q _ h => hFc q.1 h)
  clear hP hD hFc hk1 hD1 hS
  refine W.widen (k := 6) (n := 581) (Nat.le_of_ble_eq_true rfl) (Nat.le_of_ble_eq_true rfl) ?_
  refine lv_astore_n (lv' := [(1, .ref h0), (0, .ref b)]) hx hb dL_law_7 rfl hl (by decide) rfl (fun ls hl => ?_)
  refine va_new (ci := 1) (fs := [.null, .null, .null, .null]) (C := RX1) (T := TX1) (N := 4) hx hb hts in_X1 tyX1 tyX1_ok hown (hts _ q133) (hts _ q134) (hts _ q20) hK hPx hDx hS1 hA rfl (fun j hj => by rcases (show j = 0 ∨ j = 1 ∨ j = 2 ∨ j = 3 by omega) with rfl | rfl | rfl | rfl <;> rfl) (Nat.le_of_ble_eq_true rfl) (Nat.le_of_ble_eq_true rfl) dL_law_8 (fun k0 H hP hD hS => ?_)
  have hD : va_D A ((wX h0 a1 a2 a3 a4 a5 dB dS (fun _ => 0) (fun _ => 0) (fun _ => 0) (fun _ => 0) (fun _ => 0) 0 0 0) ++ nM k0) := hD
  have hPx : va_P D vwCl (wX h0 a1 a2 a3 a4 a5 dB dS (fun _ => 0) (fun _ => 0) (fun _ => 0) (fun _ => 0) (fun _ => 0) 0 0 0) H := hP.sub [0, 1, 2, 3, 4, 5] rfl
  have hPn : va_P D vwCl (nM k0) H := hP.sub [6] rfl
  have hDs := cu_Dswap hD
  have hDn := cu_Dleft hDs
  refine W.widen (k := 7) (n := 585) (Nat.le_of_ble_eq_true rfl) (Nat.le_of_ble_eq_true rfl) ?_
  refine lv_dup hx hb dL_law_11 rfl ?_
  have hFc := va_free (wc := nM k0) hDn hS hA [0] rfl
  refine va_callv (va_runI (As := []) (rest := [.ref k0]) S (mX1_init l D k0 H.size) (cwI 0 hts (lw_meth q137) rfl rfl rfl (hts _ q20) (hts _ q135) (hts _ q136) rfl (by decide +kernel) ⟨(Nat.le_of_ble_eq_true rfl), (Nat.le_of_ble_eq_true rfl)⟩) ⟨fun a U g mk q => ⟨q.1, q.2.1, q.2.2.1, va_K.moved (u := U) (U := U.calling g mk a) (Vm.Alike.refl U.vm) q.2.2.2.1, q.2.2.2.2⟩, fun U hU hW => ⟨rfl, by rw [hU], by rw [hU]; exact hPn, va_K.moved hW.alike hK, hDn.weaken (fun _ _ _ _ => trivial)⟩⟩ rfl rfl hl.1 rfl (lv_room (Nat.le_of_ble_eq_true rfl)) dL_law_12 ⟨(Nat.le_of_ble_eq_true rfl), (Nat.le_of_ble_eq_true rfl)⟩) hS (fun q _ h => hFc q h) hFc (fun u t H2 locs ht hvm hw hB hz1 hk1 hS2 => ?_)
  obtain ⟨b1, b2, b3, b4, dN, dZ, Nm, Pl⟩ := u
  obtain ⟨hPm, hKm, hD1⟩ := hB
  rw [ht] at hPm
  have hKm : va_K D vwCl (tM dN dZ) s := va_K.moved hvm.symm hKm
  have hPm : va_P D vwCl (wM k0 b1 b2 b3 b4 dN dZ Nm Pl (fun _ => false) (fun _ => false)) H2 := hPm
  obtain ⟨hPx, hD⟩ := cu_join (S := Unit) (w1 := (wM k0 b1 b2 b3 b4 dN dZ Nm Pl (fun _ => false) (fun _ => false))) hA hPx hDs hS hk1 hD1
  have hD := cu_Dswap hD
  obtain ⟨g1, g2, g3, g4⟩ := hw
  refine W.widen (k := 11) (n := 2377) (Nat.le_of_ble_eq_true rfl) (Nat.le_of_ble_eq_true rfl) ?_
  refine lv_astore_n (lv' := [(2, .ref k0), (1, .ref h0), (0, .ref b)]) hx hb dL_law_15 rfl hl (by decide) rfl (fun ls hl => ?_)
  refine lv_iconst (v := nI 0) hx hb dL_law_16 (by decide) ?_
  refine lv_istore_n (lv' := [(3, .int (nI 0)), (2, .ref k0), (1, .ref h0), (0, .ref b)]) hx hb dL_law_17 rfl hl (by decide) rfl (fun ls hl => ?_)
  refine law_loop S hX hbl hbA hA hL hKx hKm (fun H locs ls hS => ?_) (L + 6) 0 (fun _ _ => false) (fun _ => 0) (fun _ => 0) (fun _ => 0) (fun _ => 0) (fun _ => 0) 0 0 0 Nm Pl (fun _ => false) (fun _ => false) (by omega) (by omega) ⟨fun _ => (show 0 < 128 by decide), fun _ => (show 0 < 256 by decide), fun _ => (show 0 < 256 by decide), fun _ => (show 0 < 256 by decide), fun _ => (show 0 < 256 by decide), fun a ha => ⟨Nat.zero_le 40, fun j q => absurd q (Nat.not_lt_zero _), fun j q => absurd q (Nat.not_lt_zero _), fun n => ⟨fun q => absurd q Bool.false_ne_true, fun ⟨j, q, _⟩ => absurd q (Nat.not_lt_zero _)⟩⟩⟩ ⟨g3, g4, g1, g2, fun a ha c hc => rfl⟩ H2 locs hPx hPm hD hS2 ls (lv_sub hl [3, 2, 1, 0] rfl)
  refine lv_iconst (v := 1) hx hb dL_law_477 (by decide) ?_
  refine va_forget (fun q hq => hAf _ (hS.2.2 q hq)) ?_
  refine W.widen (k := 600000) (n := 7290000) (Nat.le_of_ble_eq_true rfl) (Nat.le_of_ble_eq_true rfl) ?_
  exact lw_ret hx hb hr hlocks dL_law_478
end
section
set_option maxHeartbeats 4000000 in
theorem lw_walk (l : Launch) (b : Addr) (xs : List Int32) : MetFree l x (headSpec (Jvm.Cond.code x code maxLocals ret :: tables_1) room_1) (lw_P b xs) (fun _ _ _ _ _ => True) lw_Q := by
  refine MetFree.of_bodyS (code := code) (maxLocals := maxLocals) (ret := ret) (by decide) ?_ ?_
  · intro args s m h hn
    obtain ⟨meth, c, h1, h2, h3, h4, h5, h6, -, -⟩ := Cond.code_spec hn (atoms_spec (ws := Jvm.Cond.code x code maxLocals ret :: tables_1) h _ List.mem_cons_self)
    exact ⟨meth, c, h1, h2, h3, h4, h5, h6⟩
  · intro p e s m args below meth c s₁ B hml0 hP _
    obtain ⟨rfl, hx, hbd, hgv⟩ := hP
    obtain ⟨scr, harrAt, hlist, hof, hsmall⟩ := hx
    obtain ⟨hcb, hkn, -, -⟩ := State.arrayAt?_spec harrAt
    have hown : s.vm.findClass R_law = some m.cls := findClass_of_methodNamed B.named
    have hts0 : ∀ c ∈ (Jvm.Cond.code x code maxLocals ret :: tables_1), c.before #[Value.ref b] s = true := atoms_spec (ws := Jvm.Cond.code x code maxLocals ret :: tables_1) B.pre
    have hts : ∀ w ∈ lw_tbl, w.before #[Value.ref b] s = true := k2_hts_sels lw_privs (fun w hw => hts0 w (List.mem_cons_of_mem _ hw)) lw_privs_ok
    have hml : c.maxLocals = 4 := B.maxLocals_eq (hts0 _ List.mem_cons_self)
    have X₀ : Stand p l e room_1 s m #[Value.ref b] below meth c s₁ [] 0 0 := Stand.of_body B
    have hh0 : s₁.heap = s.heap := by rw [B.state]; rfl
    have hsz : scr.slots.size = xs.length := by rw [← Array.length_toList, hlist, List.length_map]
    have hval : ∀ j : Nat, j < xs.length → scr.slots[j]? = some (.int (xs.getD j 0)) := fun j hj => by
      rw [← Array.getElem?_toList, hlist]
      simp [hj]
    have hbl : b < s.heap.size := (Array.getElem?_eq_some_iff.mp hcb).1
    have hX : va_X b xs.length (fun j => xs.getD j 0) s s.heap := ⟨scr, hcb, hof, hkn, hsz, hval⟩
    have K : W p l e room_1 s m #[Value.ref b] below meth c s₁.heap [] 0 0 (lw_Z below #[Value.ref b] s) (entryFrame m ([Value.ref b] : List Value).toArray 4) := by
      rw [hh0]
      exact whole_start l hbd ⟨B.exec, B.bytes, B.returns, hml, hown, hts, hX, hbl, B.notSynchronized, hgv⟩
    obtain ⟨t, a1, o, b1, b2, b3⟩ := K s₁ rfl X₀
    exact ⟨t, o, a1, b1, b2, b3⟩
theorem lw_pre_spec {args : Array Value} {s : State} (h : (Jvm.Cond.and given_1 narrow_1).before args s = true) (hr : rest_1_c.before args s = true) : ∃ (b : Addr) (xs : List Int32), lw_P b xs args s := by
  have hs := flat_of_before _ h
  have hq := flat_of_before _ hr
  have hc : (Cond.count 1).before args s = true := hs _ (by decide +kernel)
  have harr : (Cond.arrayOf (.arg 0) .int).before args s = true := hs _ (by decide +kernel)
  have hle : (Cond.le (.length (.arg 0)) (.int 320)).before args s = true := hs _ (by decide +kernel)
  have hlen : (Cond.isInt (.length (.arg 0))).before args s = true := hq _ (by decide +kernel)
  have hall : (Cond.all (.arg 0) (.isInt (.elem (.arg 0) (.index 0)))).before args s = true := hq _ (by decide +kernel)
  obtain ⟨b, xs, hb, hx⟩ := State.ints_of_pre rfl harr hlen hall
  have hsm : xs.length < 2 ^ 31 := hx.choose_spec.2.2.2
  have hev : (Term.length (.arg 0)).eval args s none [] s = some (.int xs.length.toInt32) := hx.length_eval hb
  have hv := Cond.le_ints hev (show (Term.int 320).eval args s none [] s = some (.int 320) from rfl)
  have hd : xs.length.toInt32 ≤ 320 := by
    simpa [Cond.before, Cond.holds, hv] using hle
  have hN : xs.length ≤ 320 := (Int32.ofNat_le_ofNat hsm (by decide)).mp (show Int32.ofNat xs.length ≤ Int32.ofNat 320 from hd)
  exact ⟨b, xs, Cond.one_arg hc (show args[0]? = some (.ref b) from hb), hx, hN, h⟩
theorem lw_comes (l : Launch) : Comes l x (Jvm.Cond.code x code maxLocals ret :: tables_1) room_1 (fun tb e args s => Calls_1 tb e args s ∧ rest_1 tb e args s ∧ Pre_1 tb e args s)
    (fun _ _ args s o t => lw_Q args s o t) := by
  intro p e ha hc hk s m args below hf hfit hheap happ hpre
  obtain ⟨b, xs, hP⟩ := lw_pre_spec hpre.2.2 hpre.2.1
  obtain ⟨k, o, h1, h2, h3, hQ⟩ := lw_walk l b xs p e ha hc hk s m args below hf ((Spec.applies_iff_loose hf).mp happ).1 hP trivial
  exact ⟨k, o, h1, h2, h3, hQ⟩
theorem lw_frame {s t : State} {o : Outcome} {args : Array Value} (h : Framed s o t [] 600000 7290000) :
    Framed s o t (fieldLocs frame_1_writes args s ++ arrayLocs frame_1_arrays args s ++ staticLocs frame_1_statics s) 600000 7290000 := h
theorem lw_limb (L : Cond) (hL : ∀ (args : Array Value) (s t : State), L.after args s (.returned (some (.int 1))) t = true) :
    ArmFor flags0 classFile x code maxLocals ret World_1 tables_1 room_1 Calls_1 rest_1 Pre_1
      (fun tb e a s o t => postC L tb e a s o t ∧ Framed s o t (fieldLocs frame_1_writes a s ++ arrayLocs frame_1_arrays a s ++ staticLocs frame_1_statics s) 600000 7290000) := by
  intro l _ _ _ p e ha hc hk s m args below hf hfit hheap happ hpre
  obtain ⟨k, o, h1, h2, h3, rfl, hF⟩ := lw_comes l p e ha hc hk s m args below hf hfit hheap happ hpre
  exact ⟨k, _, h1, h2, h3, hL args s _, lw_frame hF⟩
theorem i_vc : Claimed_1_1 ∧ Claimed_1_2 := ⟨lw_limb limb_1_1 (fun args s t => by simp [limb_1_1, Cond.after, Cond.holds, Cond.value]), lw_limb limb_1_2 (fun args s t => Cond.after_iff.mpr (by
  first | (rw [show limb_1_2 = Cond.eq .result (.int 1) from rfl, Cond.eq_ints (x := 1) (y := 1) rfl rfl]; simp; done) | (simp [limb_1_2, Cond.value, Term.eval]; done)))⟩
end
