section
/-! whole numbers behind longs and ints -/
def am_L (x : Int) : Int64 := Int64.ofInt x
def am_I (x : Int) : Int32 := Int32.ofInt x
def am_lf (T : Nat → Int) : Nat → Int64 := fun i => am_L (T i)
def am_if (T : Nat → Int) : Nat → Int32 := fun i => am_I (T i)
def am_nf (f : Nat → Nat) : Nat → Int32 := fun i => nI (f i)
def am_up {α : Type} (T : Nat → α) (k : Nat) (v : α) : Nat → α := fun j => if j = k then v else T j
/-- small enough that products fit -/
def am_B (x : Int) : Prop := -1073741824 ≤ x ∧ x ≤ 1073741824
/-- small enough to be read back -/
def am_W (x : Int) : Prop := -4611686018427387904 ≤ x ∧ x ≤ 4611686018427387904
theorem am_BW {x : Int} (h : am_B x) : am_W x := by unfold am_B at h; unfold am_W; omega
theorem am_T {x : Int} (h : am_W x) : (am_L x).toInt = x := by
  unfold am_W at h
  exact Int64.toInt_ofInt_of_le (by omega) (by omega)
theorem am_Lle {x y : Int} (hx : am_W x) (hy : am_W y) : am_L x ≤ am_L y ↔ x ≤ y := by
  rw [Int64.le_iff_toInt_le, am_T hx, am_T hy]
theorem am_Llt {x y : Int} (hx : am_W x) (hy : am_W y) : am_L x < am_L y ↔ x < y := by
  rw [Int64.lt_iff_toInt_lt, am_T hx, am_T hy]
theorem am_Leq {x y : Int} (hx : am_W x) (hy : am_W y) : am_L x = am_L y ↔ x = y := by
  rw [← Int64.toInt_inj, am_T hx, am_T hy]
theorem am_Ladd (x y : Int) : am_L x + am_L y = am_L (x + y) := (Int64.ofInt_add x y).symm
theorem am_Lsub (x y : Int) : am_L x - am_L y = am_L (x - y) := (Int64.ofInt_sub x y).symm
theorem am_Lmul (x y : Int) : am_L x * am_L y = am_L (x * y) := (Int64.ofInt_mul x y).symm
theorem am_Lneg (x : Int) : -am_L x = am_L (-x) := (Int64.ofInt_neg x).symm
theorem am_Ldiv {x y : Int} (hx : am_W x) (hy : am_W y) : am_L x / am_L y = am_L (x.tdiv y) := by
  unfold am_W at hx hy
  exact (Int64.ofInt_tdiv (by rw [show Int64.minValue.toInt = -9223372036854775808 from by decide]; omega) (by rw [show Int64.maxValue.toInt = 9223372036854775807 from by decide]; omega) (by rw [show Int64.minValue.toInt = -9223372036854775808 from by decide]; omega) (by rw [show Int64.maxValue.toInt = 9223372036854775807 from by decide]; omega)).symm
theorem am_mulB {x y : Int} (hx : am_B x) (hy : am_B y) : -1152921504606846976 ≤ x * y ∧ x * y ≤ 1152921504606846976 := by
  unfold am_B at hx hy
  have h1 : (x.natAbs * y.natAbs) ≤ 1073741824 * 1073741824 := Nat.mul_le_mul (by omega) (by omega)
  rw [← Int.natAbs_mul] at h1
  omega
theorem am_mulW {x y : Int} (hx : am_B x) (hy : am_B y) : am_W (x * y) := by
  have h := am_mulB hx hy
  unfold am_W; omega
theorem am_dW {x y z w : Int} (hx : am_B x) (hy : am_B y) (hz : am_B z) (hw : am_B w) : am_W (x * y - z * w) := by
  have h := am_mulB hx hy
  have h' := am_mulB hz hw
  unfold am_W; omega
theorem am_W0 : am_W 0 := by unfold am_W; omega
theorem am_B0 : am_B 0 := by unfold am_B; omega
/-! roads that compare longs -/
theorem am_le {x y : Int64} {A B : Prop} (a b : Int) (ha : am_W a) (hb : am_W b) (f : a ≤ b → A) (g : b < a → B) (hx : x = am_L a := by rfl) (hy : y = am_L b := by rfl) : (x ≤ y → A) ∧ (¬ x ≤ y → B) := by
  subst hx hy
  rw [am_Lle ha hb]
  exact ⟨f, fun z => g (by omega)⟩
theorem am_lt {x y : Int64} {A B : Prop} (a b : Int) (ha : am_W a) (hb : am_W b) (f : a < b → A) (g : b ≤ a → B) (hx : x = am_L a := by rfl) (hy : y = am_L b := by rfl) : (x < y → A) ∧ (¬ x < y → B) := by
  subst hx hy
  rw [am_Llt ha hb]
  exact ⟨f, fun z => g (by omega)⟩
theorem am_eq {x y : Int64} {A B : Prop} (a b : Int) (ha : am_W a) (hb : am_W b) (f : a = b → A) (g : a ≠ b → B) (hx : x = am_L a := by rfl) (hy : y = am_L b := by rfl) : (x = y → A) ∧ (¬ x = y → B) := by
  subst hx hy
  rw [am_Leq ha hb]
  exact ⟨f, g⟩
/-! ints -/
def am_V (x : Int) : Prop := -1073741824 ≤ x ∧ x ≤ 1073741824
theorem am_TI {x : Int} (h : am_V x) : (am_I x).toInt = x := by
  unfold am_V at h
  exact Int32.toInt_ofInt_of_le (by omega) (by omega)
theorem am_nI (n : Nat) : nI n = am_I (n : Int) := (Int32.ofInt_eq_ofNat).symm
theorem am_Iadd (x y : Int) : am_I x + am_I y = am_I (x + y) := (Int32.ofInt_add x y).symm
theorem am_Isub (x y : Int) : am_I x - am_I y = am_I (x - y) := (Int32.ofInt_sub x y).symm
theorem am_Imul (x y : Int) : am_I x * am_I y = am_I (x * y) := (Int32.ofInt_mul x y).symm
theorem am_Ineg (x : Int) : -am_I x = am_I (-x) := (Int32.ofInt_neg x).symm
theorem am_Idiv {x y : Int} (hx : am_V x) (hy : am_V y) : am_I x / am_I y = am_I (x.tdiv y) := by
  unfold am_V at hx hy
  exact (Int32.ofInt_tdiv (by rw [show Int32.minValue.toInt = -2147483648 from by decide]; omega) (by rw [show Int32.maxValue.toInt = 2147483647 from by decide]; omega) (by rw [show Int32.minValue.toInt = -2147483648 from by decide]; omega) (by rw [show Int32.maxValue.toInt = 2147483647 from by decide]; omega)).symm
theorem am_IL {x : Int} (h : am_V x) : (am_I x).toInt64 = am_L x := by
  have e : (am_I x).toInt64 = Int64.ofInt (am_I x).toInt := (Int64.ofInt_int32ToInt _).symm
  rw [e, am_TI h]; rfl
theorem am_LI {x : Int} (h : am_W x) : (am_L x).toInt32 = am_I x := by
  have e : (am_L x).toInt32 = Int32.ofInt (am_L x).toInt := (Int32.ofInt_int64ToInt _).symm
  rw [e, am_T h]; rfl
theorem am_Ile {x y : Int} (hx : am_V x) (hy : am_V y) : am_I x ≤ am_I y ↔ x ≤ y := by
  rw [Int32.le_iff_toInt_le, am_TI hx, am_TI hy]
theorem am_Ilt {x y : Int} (hx : am_V x) (hy : am_V y) : am_I x < am_I y ↔ x < y := by
  rw [Int32.lt_iff_toInt_lt, am_TI hx, am_TI hy]
theorem am_Ieq {x y : Int} (hx : am_V x) (hy : am_V y) : am_I x = am_I y ↔ x = y := by
  rw [← Int32.toInt_inj, am_TI hx, am_TI hy]
theorem am_ile {x y : Int32} {A B : Prop} (a b : Int) (ha : am_V a) (hb : am_V b) (f : a ≤ b → A) (g : b < a → B) (hx : x = am_I a := by rfl) (hy : y = am_I b := by rfl) : (x ≤ y → A) ∧ (¬ x ≤ y → B) := by
  subst hx hy
  rw [am_Ile ha hb]
  exact ⟨f, fun z => g (by omega)⟩
theorem am_ilt {x y : Int32} {A B : Prop} (a b : Int) (ha : am_V a) (hb : am_V b) (f : a < b → A) (g : b ≤ a → B) (hx : x = am_I a := by rfl) (hy : y = am_I b := by rfl) : (x < y → A) ∧ (¬ x < y → B) := by
  subst hx hy
  rw [am_Ilt ha hb]
  exact ⟨f, fun z => g (by omega)⟩
theorem am_ieq {x y : Int32} {A B : Prop} (a b : Int) (ha : am_V a) (hb : am_V b) (f : a = b → A) (g : a ≠ b → B) (hx : x = am_I a := by rfl) (hy : y = am_I b := by rfl) : (x = y → A) ∧ (¬ x = y → B) := by
  subst hx hy
  rw [am_Ieq ha hb]
  exact ⟨f, g⟩
/-- a small int's byte is itself -/
theorem am_byte {x : Int} (h1 : -128 ≤ x) (h2 : x ≤ 127) : (am_I x).toInt8.toInt32 = am_I x := by
  have h : ∀ n : Fin 256, (am_I ((n.val : Int) - 128)).toInt8.toInt32 = am_I ((n.val : Int) - 128) := by decide +kernel
  have hn : (x + 128).toNat < 256 := by omega
  have e := h ⟨(x + 128).toNat, hn⟩
  have e2 : (((x + 128).toNat : Nat) : Int) - 128 = x := by omega
  simp only [e2] at e
  exact e
theorem am_nbyte {x : Int} (h1 : -128 ≤ x) (h2 : x ≤ 127) : vp_nar .byte (am_I x) = am_I x := by
  rw [vp_nar_byte, am_byte h1 h2]
theorem am_nnb {n : Nat} (h : n < 128) : vp_nar .byte (nI n) = nI n := by
  rw [am_nI, am_nbyte (by omega) (by omega)]
/-! places and stores -/
theorem am_ix5 (r c : Nat) : nI r * 5 + nI c = nI (r * 5 + c) := by
  rw [show (5 : Int32) = nI 5 from rfl, pk_mul, nI_add]
theorem am_ix3 (r c : Nat) : nI r * 3 + nI c = nI (r * 3 + c) := by
  rw [show (3 : Int32) = nI 3 from rfl, pk_mul, nI_add]
theorem am_uL (T : Nat → Int) (k : Nat) (v : Int) : vp_updL (am_lf T) k (am_L v) = am_lf (am_up T k v) := by
  funext j
  unfold vp_updL am_lf am_up
  by_cases h : j = k
  · simp only [if_pos h]
  · simp only [if_neg h]
theorem am_uN (f : Nat → Nat) (k : Nat) (v : Nat) : upd (am_nf f) k (nI v) = am_nf (am_up f k v) := by
  funext j
  by_cases h : j = k
  · rw [h, pk_us]; unfold am_nf am_up; simp only [if_true]
  · rw [pk_un h]; unfold am_nf am_up; simp only [if_neg h]
theorem am_uI (f : Nat → Int) (k : Nat) (v : Int) : upd (am_if f) k (am_I v) = am_if (am_up f k v) := by
  funext j
  by_cases h : j = k
  · rw [h, pk_us]; unfold am_if am_up; simp only [if_true]
  · rw [pk_un h]; unfold am_if am_up; simp only [if_neg h]
theorem am_ups {α : Type} (T : Nat → α) (k : Nat) (v : α) : am_up T k v k = v := by unfold am_up; simp only [if_true]
theorem am_upn {α : Type} (T : Nat → α) {k j : Nat} (v : α) (h : j ≠ k) : am_up T k v j = T j := by unfold am_up; simp only [if_neg h]
theorem am_lf0 : (fun _ => 0 : Nat → Int64) = am_lf (fun _ => 0) := rfl
theorem am_nf0 : (fun _ => 0 : Nat → Int32) = am_nf (fun _ => 0) := rfl
theorem am_if0 : (fun _ => 0 : Nat → Int32) = am_if (fun _ => 0) := rfl
theorem am_k3 {r : Nat} (h : r < 1000) : (nI r * 5 + 3).toNatClampNeg = r * 5 + 3 := pk_cl (r * 5 + 3) (am_ix5 r 3)
theorem am_k4 {r : Nat} (h : r < 1000) : (nI r * 5 + 4).toNatClampNeg = r * 5 + 4 := pk_cl (r * 5 + 4) (am_ix5 r 4)
end
section
section
variable {pr_ wo_ ro_ tu_ co_ fw_ wc_ li_ em_ hh_ hl_ br_ l3_ g3_ : Int32} {un_ wt_ wb_ ht_ hb_ lt_ lb_ : Int64} {a1 a2 a3 a4 a5 a6 a7 a8 a9 a11 a12 a18 a19 : Nat → Int32} {a10 a13 a14 a15 a16 a17 : Nat → Int64}
theorem am_cell {post : Int64 → Prop} {r c : Nat} (hr : r < 21) (hc : c < 5) (h : post (a10 (r * 5 + c))) : wpX_cell post (pr_, wo_, ro_, tu_, un_, co_, fw_, wc_, wt_, wb_, li_, em_, hh_, ht_, hb_, hl_, lt_, lb_, br_, l3_, g3_, a1, a2, a3, a4, a5, a6, a7, a8, a9, a10, a11, a12, a13, a14, a15, a16, a17, a18, a19) (nI r) (nI c) := by
  refine ⟨pk_in (r * 5 + c) 105 (by omega) (am_ix5 r c), ?_⟩
  rw [pk_cl (r * 5 + c) (am_ix5 r c)]
  exact h
/-! turnSigns -/
def am_tn (T : Nat → Int) (e : Nat) : Nat → Int := fun j => if j < e then -T j else T j
theorem am_tn0 (T : Nat → Int) : am_tn T 0 = T := by
  funext j; unfold am_tn; simp only [if_neg (Nat.not_lt_zero j)]
theorem am_tnS (T : Nat → Int) (e : Nat) : am_up (am_tn T e) e (-(am_tn T e e)) = am_tn T (e + 1) := by
  funext j; unfold am_up am_tn
  by_cases h : j = e
  · subst h; simp only [if_true, if_neg (Nat.lt_irrefl j), if_pos (Nat.lt_succ_self j)]
  · by_cases h2 : j < e
    · simp only [if_neg h, if_pos h2, if_pos (show j < e + 1 by omega)]
    · simp only [if_neg h, if_neg h2, if_neg (show ¬ j < e + 1 by omega)]
theorem am_turn {post : St2 → Prop} {T : Nat → Int} {u : Int} {last : Nat} (hl : last ≤ 21)
    (h : post (pr_, wo_, ro_, tu_, am_L (-u), co_, fw_, wc_, wt_, wb_, li_, em_, hh_, ht_, hb_, hl_, lt_, lb_, br_, l3_, g3_, a1, a2, a3, a4, a5, a6, a7, a8, a9, am_lf (am_tn T (last * 5)), a11, a12, a13, a14, a15, a16, a17, a18, a19)) : wpX_turnSigns post (pr_, wo_, ro_, tu_, am_L u, co_, fw_, wc_, wt_, wb_, li_, em_, hh_, ht_, hb_, hl_, lt_, lb_, br_, l3_, g3_, a1, a2, a3, a4, a5, a6, a7, a8, a9, am_lf T, a11, a12, a13, a14, a15, a16, a17, a18, a19) (nI last) := by
  refine nm_r (am_Lneg u) ?_
  rw [← am_tn0 T]
  refine pk_loop (σ := Unit) (fun n i _ => wX_turnSigns_11 post (nI last) pr_ wo_ ro_ tu_ (am_L (-u)) co_ fw_ wc_ wt_ wb_ li_ em_ hh_ ht_ hb_ hl_ lt_ lb_ br_ l3_ g3_ n (nI i) a1 a2 a3 a4 a5 a6 a7 a8 a9 (am_lf (am_tn T i)) a11 a12 a13 a14 a15 a16 a17 a18 a19) (fun _ _ => True) (last * 5) 0 () (by omega) trivial ?_ ?_
  · intro n _ _
    exact pk_le (last * 5) (last * 5) (fun _ => h) (fun z => absurd z (by omega)) (by rw [show (5 : Int32) = nI 5 from rfl, pk_mul])
  · intro n i _ hi _ hw
    refine pk_le (last * 5) i (fun z => absurd z (by omega)) (fun _ => ⟨pk_in i 105 (by omega), pk_in i 105 (by omega), nm_r ?_ (nm_r (nI_1 i) (hw () trivial))⟩) (by rw [show (5 : Int32) = nI 5 from rfl, pk_mul])
    rw [nI_clamp (by omega)]
    show vp_updL (am_lf (am_tn T i)) i (-(am_L (am_tn T i i))) = _
    rw [am_Lneg, am_uL, am_tnS]
/-! exchange: one row's cells, then rows -/
def am_exR (T : Nat → Int) (row col : Nat) (p u : Int) (cols : Nat) (j : Nat) : Int :=
  if j / 5 = row then T j else if j % 5 = col then -T j else if j % 5 < cols ∨ j % 5 = 4 then (T j * p - T (j / 5 * 5 + col) * T (row * 5 + j % 5)).tdiv u else T j
def am_exO (T : Nat → Int) (row col : Nat) (p u : Int) (cols i : Nat) : Nat → Int := fun j => if j / 5 < i then am_exR T row col p u cols j else T j
def am_exN (T : Nat → Int) (row col : Nat) (p u : Int) (cols i c : Nat) : Nat → Int := fun j => if j / 5 < i then am_exR T row col p u cols j else if j / 5 = i ∧ j % 5 < c ∧ j % 5 ≠ col then am_exR T row col p u cols j else T j
theorem am_exO0 (T : Nat → Int) (row col : Nat) (p u : Int) (cols : Nat) : am_exO T row col p u cols 0 = T := by
  funext j; unfold am_exO; simp only [if_neg (Nat.not_lt_zero _)]
theorem am_exN0 (T : Nat → Int) (row col : Nat) (p u : Int) (cols i : Nat) : am_exN T row col p u cols i 0 = am_exO T row col p u cols i := by
  funext j; unfold am_exN am_exO
  by_cases h : j / 5 < i
  · simp only [if_pos h]
  · simp only [if_neg h, if_neg (show ¬ (j / 5 = i ∧ j % 5 < 0 ∧ j % 5 ≠ col) by omega)]
theorem am_exOrow (T : Nat → Int) (row col : Nat) (p u : Int) (cols : Nat) : am_exO T row col p u cols (row + 1) = am_exO T row col p u cols row := by
  funext j; unfold am_exO
  by_cases h : j / 5 < row
  · simp only [if_pos h, if_pos (show j / 5 < row + 1 by omega)]
  · by_cases h2 : j / 5 = row
    · simp only [if_neg h, if_pos (show j / 5 < row + 1 by omega)]
      unfold am_exR; simp only [if_pos h2]
    · simp only [if_neg h, if_neg (show ¬ j / 5 < row + 1 by omega)]
theorem am_exN5 (T : Nat → Int) (row col : Nat) (p u : Int) (cols i : Nat) (hi : i ≠ row) (hc : col < 5) : am_up (am_exN T row col p u cols i 5) (i * 5 + col) (-T (i * 5 + col)) = am_exO T row col p u cols (i + 1) := by
  funext j; unfold am_up am_exN am_exO
  by_cases h : j = i * 5 + col
  · have e1 : j / 5 = i := by omega
    have e2 : j % 5 = col := by omega
    simp only [if_pos h, if_pos (show j / 5 < i + 1 by omega)]
    unfold am_exR
    simp only [e1, e2, if_neg hi, if_true]
    rw [h]
  · by_cases h2 : j / 5 < i
    · simp only [if_neg h, if_pos h2, if_pos (show j / 5 < i + 1 by omega)]
    · by_cases h3 : j / 5 = i
      · simp only [if_neg h, if_neg h2, if_pos (show j / 5 = i ∧ j % 5 < 5 ∧ j % 5 ≠ col by omega), if_pos (show j / 5 < i + 1 by omega)]
      · simp only [if_neg h, if_neg h2, if_neg (show ¬ (j / 5 = i ∧ j % 5 < 5 ∧ j % 5 ≠ col) by omega), if_neg (show ¬ j / 5 < i + 1 by omega)]
/-- a column that isn't counted, or the pivot's own -/
theorem am_exNskip (T : Nat → Int) (row col : Nat) (p u : Int) (cols i c : Nat) (hi : i ≠ row) (h : c = col ∨ ¬ (c < cols ∨ c = 4)) : am_exN T row col p u cols i (c + 1) = am_exN T row col p u cols i c := by
  funext j; unfold am_exN
  by_cases h2 : j / 5 < i
  · simp only [if_pos h2]
  · simp only [if_neg h2]
    by_cases h3 : j / 5 = i ∧ j % 5 < c ∧ j % 5 ≠ col
    · simp only [if_pos h3, if_pos (show j / 5 = i ∧ j % 5 < c + 1 ∧ j % 5 ≠ col by omega)]
    · simp only [if_neg h3]
      by_cases h4 : j / 5 = i ∧ j % 5 < c + 1 ∧ j % 5 ≠ col
      · simp only [if_pos h4]
        unfold am_exR
        rw [if_neg (show ¬ j / 5 = row by omega), if_neg (show ¬ j % 5 = col by omega), if_neg (show ¬ (j % 5 < cols ∨ j % 5 = 4) by omega)]
      · simp only [if_neg h4]
theorem am_exNput (T : Nat → Int) (row col : Nat) (p u : Int) (cols i c : Nat) (hi : i ≠ row) (hc : c ≠ col) (hc5 : c < 5) (h : c < cols ∨ c = 4) : am_up (am_exN T row col p u cols i c) (i * 5 + c) ((T (i * 5 + c) * p - T (i * 5 + col) * T (row * 5 + c)).tdiv u) = am_exN T row col p u cols i (c + 1) := by
  funext j; unfold am_up am_exN
  by_cases hj : j = i * 5 + c
  · have e1 : j / 5 = i := by omega
    have e2 : j % 5 = c := by omega
    simp only [if_pos hj, if_neg (show ¬ j / 5 < i by omega), if_pos (show j / 5 = i ∧ j % 5 < c + 1 ∧ j % 5 ≠ col by omega)]
    unfold am_exR
    simp only [e1, e2, if_neg hi, if_neg hc, if_pos h]
    rw [hj]
  · simp only [if_neg hj]
    by_cases h2 : j / 5 < i
    · simp only [if_pos h2]
    · simp only [if_neg h2]
      by_cases h3 : j / 5 = i ∧ j % 5 < c ∧ j % 5 ≠ col
      · simp only [if_pos h3, if_pos (show j / 5 = i ∧ j % 5 < c + 1 ∧ j % 5 ≠ col by omega)]
      · simp only [if_neg h3, if_neg (show ¬ (j / 5 = i ∧ j % 5 < c + 1 ∧ j % 5 ≠ col) by omega)]
theorem am_exNat (T : Nat → Int) (row col : Nat) (p u : Int) (cols i c : Nat) (hc5 : c < 5) : am_exN T row col p u cols i c (i * 5 + c) = T (i * 5 + c) := by
  unfold am_exN
  simp only [if_neg (show ¬ (i * 5 + c) / 5 < i by omega), if_neg (show ¬ ((i * 5 + c) / 5 = i ∧ (i * 5 + c) % 5 < c ∧ (i * 5 + c) % 5 ≠ col) by omega)]
theorem am_exNrow (T : Nat → Int) (row col : Nat) (p u : Int) (cols i c k : Nat) (hi : i ≠ row) (hk : k < 5) : am_exN T row col p u cols i c (row * 5 + k) = T (row * 5 + k) := by
  unfold am_exN
  by_cases h : (row * 5 + k) / 5 < i
  · simp only [if_pos h]
    unfold am_exR
    rw [if_pos (show (row * 5 + k) / 5 = row by omega)]
  · simp only [if_neg h, if_neg (show ¬ ((row * 5 + k) / 5 = i ∧ (row * 5 + k) % 5 < c ∧ (row * 5 + k) % 5 ≠ col) by omega)]
theorem am_exOat (T : Nat → Int) (row col : Nat) (p u : Int) (cols i k : Nat) (hk : k < 5) : am_exO T row col p u cols i (i * 5 + k) = T (i * 5 + k) := by
  unfold am_exO
  rw [if_neg (show ¬ (i * 5 + k) / 5 < i by omega)]
theorem am_ex40 {post : St2 → Prop} {J : Int32 → (Nat → Int32) → (Nat → Int32) → (Nat → Int32) → (Nat → Int32) → (Nat → Int32) → (Nat → Int32) → (Nat → Int32) → (Nat → Int32) → (Nat → Int32) → (Nat → Int64) → (Nat → Int32) → (Nat → Int32) → (Nat → Int64) → (Nat → Int64) → (Nat → Int64) → (Nat → Int64) → (Nat → Int64) → (Nat → Int32) → (Nat → Int32) → Prop} {T : Nat → Int} {row col cols last i : Nat} {p u t : Int} {x5 : Int32}
    (hb : ∀ r c, r < last → (c < cols ∨ c = 4) → am_B (T (r * 5 + c))) (hp : am_B p) (hu : am_B u) (hu0 : u ≠ 0) (hrl : row < last) (hil : i < last) (hcc : col < cols) (hrow : row < 21) (hcol : col < 4) (hi : i < 21) (hcols : cols ≤ 4) (ht : t = T (i * 5 + col))
    (h : J (nI (i + 1)) a1 a2 a3 a4 a5 a6 a7 a8 a9 (am_lf (am_exO T row col p u cols (i + 1))) a11 a12 a13 a14 a15 a16 a17 a18 a19) :
    ∃ n, wX_exchange_40 post J (nI row) (nI col) (am_L p) x5 (nI i) (am_L t) pr_ wo_ ro_ tu_ (am_L u) (nI cols) fw_ wc_ wt_ wb_ li_ em_ hh_ ht_ hb_ hl_ lt_ lb_ br_ l3_ g3_ n 0 a1 a2 a3 a4 a5 a6 a7 a8 a9 (am_lf (am_exO T row col p u cols i)) a11 a12 a13 a14 a15 a16 a17 a18 a19 := by
  by_cases e : i = row
  · subst e
    rw [am_exOrow] at h
    exact ⟨1, pk_le 5 0 (fun z => absurd z (by omega)) (fun _ => pk_eq i i (fun _ => pk_eq i i (fun _ => nm_r (nI_1 i) h) (fun z => absurd rfl z)) (fun z => absurd rfl z))⟩
  · rw [← am_exN0]
    refine pk_loop (σ := Unit) (fun n c _ => wX_exchange_40 post J (nI row) (nI col) (am_L p) x5 (nI i) (am_L t) pr_ wo_ ro_ tu_ (am_L u) (nI cols) fw_ wc_ wt_ wb_ li_ em_ hh_ ht_ hb_ hl_ lt_ lb_ br_ l3_ g3_ n (nI c) a1 a2 a3 a4 a5 a6 a7 a8 a9 (am_lf (am_exN T row col p u cols i c)) a11 a12 a13 a14 a15 a16 a17 a18 a19) (fun _ _ => True) 5 0 () (by omega) trivial ?_ ?_
    · intro n _ _
      refine pk_le 5 5 (fun _ => ?_) (fun z => absurd z (by omega))
      refine pk_eq i row (fun z => absurd z e) (fun _ => ⟨pk_in (i * 5 + col) 105 (by omega) (am_ix5 i col), nm_r ?_ (nm_r (nI_1 i) h)⟩)
      rw [pk_cl (i * 5 + col) (am_ix5 i col), am_Lneg, am_uL, ht, am_exN5 T row col p u cols i e (by omega)]
    · intro n c _ hc _ hw
      have hw' := hw () trivial
      refine pk_le 5 c (fun z => absurd z (by omega)) (fun _ => ?_)
      refine pk_eq i row (fun z => absurd z e) (fun _ => ?_)
      have skip : (c = col ∨ ¬ (c < cols ∨ c = 4)) → wX_exchange_40 post J (nI row) (nI col) (am_L p) x5 (nI i) (am_L t) pr_ wo_ ro_ tu_ (am_L u) (nI cols) fw_ wc_ wt_ wb_ li_ em_ hh_ ht_ hb_ hl_ lt_ lb_ br_ l3_ g3_ n (nI (c + 1)) a1 a2 a3 a4 a5 a6 a7 a8 a9 (am_lf (am_exN T row col p u cols i c)) a11 a12 a13 a14 a15 a16 a17 a18 a19 := by
        intro hs
        have hw2 := hw'
        rw [am_exNskip T row col p u cols i c e hs] at hw2
        exact hw2
      have put : c ≠ col → (c < cols ∨ c = 4) → wX_exchange_73 post J (wX_exchange_40 post J (nI row) (nI col) (am_L p) x5 (nI i) (am_L t) pr_ wo_ ro_ tu_ (am_L u) (nI cols) fw_ wc_ wt_ wb_ li_ em_ hh_ ht_ hb_ hl_ lt_ lb_ br_ l3_ g3_ n) (nI row) (nI col) (am_L p) x5 (nI i) (am_L t) (nI c) pr_ wo_ ro_ tu_ (am_L u) (nI cols) fw_ wc_ wt_ wb_ li_ em_ hh_ ht_ hb_ hl_ lt_ lb_ br_ l3_ g3_ a1 a2 a3 a4 a5 a6 a7 a8 a9 (am_lf (am_exN T row col p u cols i c)) a11 a12 a13 a14 a15 a16 a17 a18 a19 := by
        intro h1 h2
        unfold wX_exchange_73 wX_exchange_78
        refine br_f (by decide) (am_cell hi (by omega) (am_cell hrow (by omega) ?_))
        intro x ex
        have ex2 : x = am_L (T (i * 5 + c) * p - T (i * 5 + col) * T (row * 5 + c)) := by
          rw [ex, show am_lf (am_exN T row col p u cols i c) (i * 5 + c) = am_L (T (i * 5 + c)) from congrArg am_L (am_exNat T row col p u cols i c (by omega)), show am_lf (am_exN T row col p u cols i c) (row * 5 + c) = am_L (T (row * 5 + c)) from congrArg am_L (am_exNrow T row col p u cols i c c e (by omega)), ht, am_Lmul, am_Lmul, am_Lsub]
        refine am_eq u 0 (am_BW hu) am_W0 (fun z => absurd z hu0) (fun z => ⟨?_, pk_in (i * 5 + c) 105 (by omega) (am_ix5 i c), nm_r ?_ (nm_r (nI_1 c) hw')⟩)
        · intro z2
          exact z ((am_Leq (am_BW hu) am_W0).mp z2)
        · rw [pk_cl (i * 5 + c) (am_ix5 i c), ex2, am_Ldiv (am_dW (hb i c hil h2) hp (hb i col hil (Or.inl hcc)) (hb row c hrl h2)) (am_BW hu), am_uL, am_exNput T row col p u cols i c e h1 (by omega) h2]
      refine pk_eq c col (fun z => ?_) (fun z => ?_)
      · unfold wX_exchange_77 wX_exchange_78
        exact br_t rfl (nm_r (nI_1 c) (skip (Or.inl z)))
      · refine pk_lt c cols (fun z2 => put z (Or.inl z2)) (fun z2 => pk_eq c 4 (fun z3 => put z (Or.inr z3)) (fun z3 => ?_))
        unfold wX_exchange_77 wX_exchange_78
        exact br_t rfl (nm_r (nI_1 c) (skip (Or.inr (by omega))))
/-- the whole exchange: the table -/
def am_ex (T : Nat → Int) (row col : Nat) (u : Int) (cols last : Nat) : Nat → Int :=
  if 0 ≤ T (row * 5 + col) then am_up (am_exO T row col (T (row * 5 + col)) u cols last) (row * 5 + col) u
  else am_tn (am_up (am_exO T row col (T (row * 5 + col)) u cols last) (row * 5 + col) u) (last * 5)
def am_ab (x : Int) : Int := if 0 ≤ x then x else -x
theorem am_exchange {post : St2 → Prop} {T : Nat → Int} {u : Int} {rn cn : Nat → Nat} {row col cols last : Nat}
    (hb : ∀ r c, r < last → (c < cols ∨ c = 4) → am_B (T (r * 5 + c))) (hu : am_B u) (hu0 : u ≠ 0) (hrow : row < 16) (hrl : row < last) (hcol : col < cols) (hlast : last ≤ 21) (hcols : cols ≤ 4) (hn : rn row < 128) (hn' : cn col < 128) (hfw : fw_ + wc_ = nI last)
    (h : post (pr_, wo_, ro_, tu_, am_L (am_ab (T (row * 5 + col))), nI cols, fw_, wc_, wt_, wb_, li_, em_, hh_, ht_, hb_, hl_, lt_, lb_, br_, l3_, g3_, a1, a2, a3, a4, a5, a6, a7, a8, a9, am_lf (am_ex T row col u cols last), am_nf (am_up rn row (cn col)), am_nf (am_up cn col (rn row)), a13, a14, a15, a16, a17, a18, a19)) :
    wpX_exchange post (pr_, wo_, ro_, tu_, am_L u, nI cols, fw_, wc_, wt_, wb_, li_, em_, hh_, ht_, hb_, hl_, lt_, lb_, br_, l3_, g3_, a1, a2, a3, a4, a5, a6, a7, a8, a9, am_lf T, am_nf rn, am_nf cn, a13, a14, a15, a16, a17, a18, a19) (nI row) (nI col) := by
  unfold wpX_exchange
  refine am_cell (by omega) (by omega) (nm_r hfw ?_)
  have hpB : am_B (T (row * 5 + col)) := hb row col hrl (Or.inl hcol)
  show ∃ fu21 : Nat, wX_exchange_21 post (nI row) (nI col) (am_L (T (row * 5 + col))) (nI last) pr_ wo_ ro_ tu_ (am_L u) (nI cols) fw_ wc_ wt_ wb_ li_ em_ hh_ ht_ hb_ hl_ lt_ lb_ br_ l3_ g3_ fu21 0 a1 a2 a3 a4 a5 a6 a7 a8 a9 (am_lf T) (am_nf rn) (am_nf cn) a13 a14 a15 a16 a17 a18 a19
  have e0 := am_exO0 T row col (T (row * 5 + col)) u cols
  rw [show am_lf T = am_lf (am_exO T row col (T (row * 5 + col)) u cols 0) from by rw [e0]]
  refine pk_loop (σ := Unit) (fun n i _ => wX_exchange_21 post (nI row) (nI col) (am_L (T (row * 5 + col))) (nI last) pr_ wo_ ro_ tu_ (am_L u) (nI cols) fw_ wc_ wt_ wb_ li_ em_ hh_ ht_ hb_ hl_ lt_ lb_ br_ l3_ g3_ n (nI i) a1 a2 a3 a4 a5 a6 a7 a8 a9 (am_lf (am_exO T row col (T (row * 5 + col)) u cols i)) (am_nf rn) (am_nf cn) a13 a14 a15 a16 a17 a18 a19) (fun _ _ => True) last 0 () (by omega) trivial ?_ ?_
  · intro n _ _
    refine pk_le last last (fun _ => ?_) (fun z => absurd z (by omega))
    refine ⟨pk_in (row * 5 + col) 105 (by omega) (am_ix5 row col), nm_r (by rw [pk_cl (row * 5 + col) (am_ix5 row col), am_uL]) ⟨pk_in row 16 (by omega), nm_e ⟨pk_in col 4 (by omega), pk_in row 16 (by omega), nm_r (by rw [nI_clamp (by omega), nI_clamp (by omega), show am_nf cn col = nI (cn col) from rfl, am_nnb hn', am_uN]) ⟨pk_in col 4 (by omega), nm_r (by rw [nI_clamp (by omega), nI_clamp (by omega), show am_nf rn row = nI (rn row) from rfl, am_nnb hn, am_uN]) ?_⟩⟩⟩⟩
    refine am_le 0 (T (row * 5 + col)) am_W0 (am_BW hpB) (fun z => ?_) (fun z => ?_)
    · rw [show am_ab (T (row * 5 + col)) = T (row * 5 + col) from if_pos z, show am_ex T row col u cols last = am_up (am_exO T row col (T (row * 5 + col)) u cols last) (row * 5 + col) u from if_pos z] at h
      exact h
    · have z' : ¬ 0 ≤ T (row * 5 + col) := by omega
      rw [show am_ab (T (row * 5 + col)) = -T (row * 5 + col) from if_neg z', show am_ex T row col u cols last = am_tn (am_up (am_exO T row col (T (row * 5 + col)) u cols last) (row * 5 + col) u) (last * 5) from if_neg z'] at h
      exact am_turn hlast h
  · intro n i _ hi _ hw
    refine pk_le last i (fun z => absurd z (by omega)) (fun _ => ?_)
    refine am_cell (by omega) (by omega) ?_
    rw [show am_lf (am_exO T row col (T (row * 5 + col)) u cols i) (i * 5 + col) = am_L (T (i * 5 + col)) from congrArg am_L (am_exOat T row col _ u cols i col (by omega))]
    exact am_ex40 hb hpB hu hu0 hrl hi hcol (by omega) (by omega) (by omega) hcols rfl (hw () trivial)
end
end
section
/-! the table's picture: u·y = X + Σ n_c d_c; a row of form f has cells -(f·d_c) and right f·X + u f_4 -/
def am_dot (a b : Nat → Int) : Int := a 0 * b 0 + a 1 * b 1 + a 2 * b 2 + a 3 * b 3
def am_row (f : Nat → Int) (cols : Nat) (u : Int) (T : Nat → Int) (r : Nat) (X : Nat → Int) (d : Nat → Nat → Int) : Prop :=
  (∀ c, c < cols → T (r * 5 + c) = -(am_dot f (d c))) ∧ T (r * 5 + 4) = am_dot f X + u * f 4
def am_pic (F G : Nat → Nat → Int) (rows wr cols : Nat) (u : Int) (T : Nat → Int) (rn cn : Nat → Nat) (X : Nat → Int) (d : Nat → Nat → Int) : Prop :=
  (∀ r, r < rows → am_row (F (rn r)) cols u T r X d) ∧ (∀ w, w < wr → am_row (G w) cols u T (rows + w) X d) ∧
  (∀ c c', c < cols → c' < cols → am_dot (F (cn c)) (d c') = if c = c' then u else 0) ∧ (∀ c, c < cols → am_dot (F (cn c)) X + u * F (cn c) 4 = 0)
theorem am_ex_sgn (T : Nat → Int) (row col : Nat) (u : Int) (cols last : Nat) (s : Int) (hs : s = 1 ∨ s = -1) (hp : 0 < s * T (row * 5 + col)) (j : Nat) (hj : j < last * 5) :
    am_ex T row col u cols last j = s * (am_up (am_exO T row col (T (row * 5 + col)) u cols last) (row * 5 + col) u j) := by
  unfold am_ex
  rcases hs with h | h
  · subst h
    rw [if_pos (by omega), Int.one_mul]
  · subst h
    rw [if_neg (by omega)]
    unfold am_tn
    rw [if_pos hj]; omega
theorem am_ab_sgn {x s : Int} (hs : s = 1 ∨ s = -1) (hp : 0 < s * x) : am_ab x = s * x := by
  unfold am_ab
  rcases hs with h | h
  · subst h; rw [if_pos (by omega)]; omega
  · subst h; rw [if_neg (by omega)]; omega
theorem am_ex_row (T : Nat → Int) (row col : Nat) (u : Int) (cols last : Nat) (s : Int) (hs : s = 1 ∨ s = -1) (hp : 0 < s * T (row * 5 + col)) (hr : row < last) (c : Nat) (hc : c < 5) (hcc : col < 5) :
    am_ex T row col u cols last (row * 5 + c) = s * (if c = col then u else T (row * 5 + c)) := by
  rw [am_ex_sgn T row col u cols last s hs hp _ (by omega)]
  congr 1
  by_cases h : c = col
  · rw [if_pos h, h, am_ups]
  · rw [if_neg h, am_upn _ _ (by omega)]
    unfold am_exO am_exR
    rw [if_pos (by omega), if_pos (by omega)]
theorem am_ex_oth (T : Nat → Int) (row col : Nat) (u : Int) (cols last : Nat) (s : Int) (hs : s = 1 ∨ s = -1) (hp : 0 < s * T (row * 5 + col)) (r : Nat) (hr : r < last) (hrr : r ≠ row) (c : Nat) (hc : c < 5) (hcc : col < 5) :
    am_ex T row col u cols last (r * 5 + c) = s * (if c = col then -T (r * 5 + c) else if c < cols ∨ c = 4 then (T (r * 5 + c) * T (row * 5 + col) - T (r * 5 + col) * T (row * 5 + c)).tdiv u else T (r * 5 + c)) := by
  rw [am_ex_sgn T row col u cols last s hs hp _ (by omega)]
  congr 1
  rw [am_upn _ _ (by omega)]
  unfold am_exO am_exR
  rw [if_pos (show (r * 5 + c) / 5 < last by omega), if_neg (show ¬ (r * 5 + c) / 5 = row by omega), show (r * 5 + c) % 5 = c by omega, show (r * 5 + c) / 5 = r by omega]
theorem am_dot_lin (f A B C : Nat → Int) (u s p R : Int) (h : ∀ j, j < 4 → u * A j = s * (p * B j + R * C j)) : u * am_dot f A = s * (p * am_dot f B + R * am_dot f C) := by
  have h0 := h 0 (by omega)
  have h1 := h 1 (by omega)
  have h2 := h 2 (by omega)
  have h3 := h 3 (by omega)
  unfold am_dot
  have e : u * (f 0 * A 0 + f 1 * A 1 + f 2 * A 2 + f 3 * A 3) = f 0 * (u * A 0) + f 1 * (u * A 1) + f 2 * (u * A 2) + f 3 * (u * A 3) := by grind
  rw [e, h0, h1, h2, h3]
  grind
theorem am_dot_neg (f A B : Nat → Int) (s : Int) (h : ∀ j, j < 4 → A j = -(s * B j)) : am_dot f A = -(s * am_dot f B) := by
  unfold am_dot
  rw [h 0 (by omega), h 1 (by omega), h 2 (by omega), h 3 (by omega)]
  grind
theorem am_tdiv {x u k : Int} (hu : 0 < u) (h : x = u * k) : x.tdiv u = k := by
  rw [h, Int.mul_tdiv_cancel_left k (by omega)]
theorem am_canc {u a b : Int} (hu : 0 < u) (h : u * a = u * b) : a = b := Int.eq_of_mul_eq_mul_left (by omega) h
theorem am_ss {s : Int} (hs : s = 1 ∨ s = -1) : s * s = 1 := by rcases hs with h | h <;> subst h <;> rfl
theorem am_pivot {F G : Nat → Nat → Int} {rows wr cols : Nat} {u : Int} {T : Nat → Int} {rn cn : Nat → Nat} {X : Nat → Int} {d : Nat → Nat → Int} (h : am_pic F G rows wr cols u T rn cn X d) (hu : 0 < u)
    {row q : Nat} (hr : row < rows) (hq : q < cols) (hcols : cols ≤ 4) {s : Int} (hs : s = 1 ∨ s = -1) (hp : 0 < s * T (row * 5 + q)) {X' : Nat → Int} {d' : Nat → Nat → Int}
    (hX : ∀ j, j < 4 → u * X' j = s * (T (row * 5 + q) * X j + T (row * 5 + 4) * d q j))
    (hd : ∀ c, c < cols → c ≠ q → ∀ j, j < 4 → u * d' c j = s * (T (row * 5 + q) * d c j - T (row * 5 + c) * d q j))
    (hdq : ∀ j, j < 4 → d' q j = -(s * d q j)) :
    am_pic F G rows wr cols (am_ab (T (row * 5 + q))) (am_ex T row q u cols (rows + wr)) (am_up rn row (cn q)) (am_up cn q (rn row)) X' d' := by
  obtain ⟨hF, hG, hJ, hK⟩ := h
  have ss := am_ss hs
  have ab := am_ab_sgn hs hp
  have LX : ∀ f : Nat → Int, u * am_dot f X' = s * (T (row * 5 + q) * am_dot f X + T (row * 5 + 4) * am_dot f (d q)) := fun f => am_dot_lin f X' X (d q) u s _ _ hX
  have Ld : ∀ (f : Nat → Int) (c : Nat), c < cols → c ≠ q → u * am_dot f (d' c) = s * (T (row * 5 + q) * am_dot f (d c) - T (row * 5 + c) * am_dot f (d q)) := by
    intro f c hc hcq
    have := am_dot_lin f (d' c) (d c) (d q) u s (T (row * 5 + q)) (-T (row * 5 + c)) (fun j hj => by rw [hd c hc hcq j hj]; grind)
    rw [this]; grind
  have Lq : ∀ f : Nat → Int, am_dot f (d' q) = -(s * am_dot f (d q)) := fun f => am_dot_neg f (d' q) (d q) s hdq
  obtain ⟨hw1, hw2⟩ := hF row hr
  have hwq := hw1 q hq
  -- a row other than the exchanged one
  have oth : ∀ r (f : Nat → Int), r < rows + wr → r ≠ row → am_row f cols u T r X d → am_row f cols (am_ab (T (row * 5 + q))) (am_ex T row q u cols (rows + wr)) r X' d' := by
    intro r f hrl hrr hf
    obtain ⟨f1, f2⟩ := hf
    have fq := f1 q hq
    refine ⟨fun c hc => ?_, ?_⟩
    · rw [am_ex_oth T row q u cols (rows + wr) s hs hp r hrl hrr c (by omega) (by omega)]
      by_cases e : c = q
      · rw [if_pos e, e, fq, Lq]; grind
      · rw [if_neg e, if_pos (Or.inl hc)]
        have l := Ld f c hc e
        have fc := f1 c hc
        rw [am_tdiv hu (k := -(s * am_dot f (d' c))) ?_]
        · grind
        · rw [fc, fq]
          have : u * (-(s * am_dot f (d' c))) = -(s * (u * am_dot f (d' c))) := by grind
          rw [this, l]
          have e2 : s * (s * (T (row * 5 + q) * am_dot f (d c) - T (row * 5 + c) * am_dot f (d q))) = (s * s) * (T (row * 5 + q) * am_dot f (d c) - T (row * 5 + c) * am_dot f (d q)) := by grind
          rw [e2, ss]; grind
    · rw [am_ex_oth T row q u cols (rows + wr) s hs hp r hrl hrr 4 (by omega) (by omega), if_neg (by omega), if_pos (Or.inr rfl)]
      have l := LX f
      rw [am_tdiv hu (k := s * am_dot f X' + T (row * 5 + q) * f 4) ?_]
      · rw [ab]
        have : s * (s * am_dot f X' + T (row * 5 + q) * f 4) = (s * s) * am_dot f X' + s * T (row * 5 + q) * f 4 := by grind
        rw [this, ss]; grind
      · rw [f2, fq]
        have : u * (s * am_dot f X' + T (row * 5 + q) * f 4) = s * (u * am_dot f X') + u * T (row * 5 + q) * f 4 := by grind
        rw [this, l]
        have e2 : s * (s * (T (row * 5 + q) * am_dot f X + T (row * 5 + 4) * am_dot f (d q))) = (s * s) * (T (row * 5 + q) * am_dot f X + T (row * 5 + 4) * am_dot f (d q)) := by grind
        rw [e2, ss]; grind
  have ncol : ∀ c, c < cols → am_dot (F (cn q)) (d c) = if q = c then u else 0 := fun c hc => hJ q c hq hc
  have nq : am_dot (F (cn q)) (d q) = u := by rw [ncol q hq, if_pos rfl]
  refine ⟨fun r hrr => ?_, fun w hw => ?_, fun c c' hc hc' => ?_, fun c hc => ?_⟩
  · by_cases e : r = row
    · subst e
      rw [am_ups]
      refine ⟨fun c hc => ?_, ?_⟩
      · rw [am_ex_row T r q u cols (rows + wr) s hs hp (by omega) c (by omega) (by omega)]
        by_cases e : c = q
        · rw [if_pos e, e, Lq, nq]; grind
        · rw [if_neg e]
          have l := Ld (F (cn q)) c hc e
          rw [nq, ncol c hc, if_neg (fun z => e z.symm)] at l
          have : am_dot (F (cn q)) (d' c) = -(s * T (r * 5 + c)) := am_canc hu (by rw [l]; grind)
          rw [this]; grind
      · rw [am_ex_row T r q u cols (rows + wr) s hs hp (by omega) 4 (by omega) (by omega), if_neg (by omega), ab]
        have l := LX (F (cn q))
        have k := hK q hq
        rw [nq] at l
        have k2 : am_dot (F (cn q)) X = -(u * F (cn q) 4) := by omega
        rw [k2] at l
        have : am_dot (F (cn q)) X' = s * T (r * 5 + 4) - s * T (r * 5 + q) * F (cn q) 4 := am_canc hu (by rw [l]; grind)
        rw [this]; grind
    · rw [am_upn _ _ e]
      exact oth r _ (by omega) e (hF r hrr)
  · exact oth (rows + w) _ (by omega) (by omega) (hG w hw)
  · rw [ab]
    by_cases e : c = q
    · subst e
      rw [am_ups]
      by_cases e' : c' = c
      · subst e'
        rw [if_pos rfl, Lq]
        have : am_dot (F (rn row)) (d c') = -T (row * 5 + c') := by omega
        rw [this]; grind
      · rw [if_neg (fun z => e' z.symm)]
        have l := Ld (F (rn row)) c' hc' e'
        have h1 := hw1 c' hc'
        have a1 : am_dot (F (rn row)) (d c') = -T (row * 5 + c') := by omega
        have a2 : am_dot (F (rn row)) (d c) = -T (row * 5 + c) := by omega
        rw [a1, a2] at l
        exact am_canc hu (by rw [l]; grind)
    · rw [am_upn _ _ e]
      by_cases e' : c' = q
      · subst e'
        rw [if_neg e, Lq, hJ c c' hc hc', if_neg e]; grind
      · have l := Ld (F (cn c)) c' hc' e'
        rw [hJ c q hc hq, if_neg e, hJ c c' hc hc'] at l
        by_cases e2 : c = c'
        · rw [if_pos e2] at l ⊢
          exact am_canc hu (by rw [l]; grind)
        · rw [if_neg e2] at l ⊢
          exact am_canc hu (by rw [l]; grind)
  · rw [ab]
    by_cases e : c = q
    · subst e
      rw [am_ups]
      have l := LX (F (rn row))
      have a2 : am_dot (F (rn row)) (d c) = -T (row * 5 + c) := by omega
      have a3 : am_dot (F (rn row)) X = T (row * 5 + 4) - u * F (rn row) 4 := by omega
      rw [a2, a3] at l
      have : am_dot (F (rn row)) X' = -(s * T (row * 5 + c) * F (rn row) 4) := am_canc hu (by rw [l]; grind)
      rw [this]; grind
    · rw [am_upn _ _ e]
      have l := LX (F (cn c))
      have k := hK c hc
      rw [hJ c q hc hq, if_neg e] at l
      have k2 : am_dot (F (cn c)) X = -(u * F (cn c) 4) := by omega
      rw [k2] at l
      have : am_dot (F (cn c)) X' = -(s * T (row * 5 + q) * F (cn c) 4) := am_canc hu (by rw [l]; grind)
      rw [this]; grind
end
section
/-! three columns: directions are cross products -/
def am_crs (a b : Nat → Int) : Nat → Int
  | 0 => a 1 * b 2 - a 2 * b 1
  | 1 => a 2 * b 0 - a 0 * b 2
  | 2 => a 0 * b 1 - a 1 * b 0
  | _ => 0
def am_m (n : Nat → Nat → Int) : Nat → Nat → Int
  | 0 => am_crs (n 1) (n 2)
  | 1 => am_crs (n 2) (n 0)
  | _ => am_crs (n 0) (n 1)
def am_D (n : Nat → Nat → Int) : Int := am_dot (n 0) (am_m n 0)
theorem am_3 {P : Nat → Prop} (h0 : P 0) (h1 : P 1) (h2 : P 2) : ∀ j, j < 3 → P j := by
  intro j hj
  have : j = 0 ∨ j = 1 ∨ j = 2 := by omega
  rcases this with e | e | e <;> subst e <;> assumption
theorem am_4 {P : Nat → Prop} (h0 : P 0) (h1 : P 1) (h2 : P 2) (h3 : P 3) : ∀ j, j < 4 → P j := by
  intro j hj
  have : j = 0 ∨ j = 1 ∨ j = 2 ∨ j = 3 := by omega
  rcases this with e | e | e | e <;> subst e <;> assumption
theorem am_m3 (n : Nat → Nat → Int) : ∀ c, c < 3 → am_m n c 3 = 0 := am_3 rfl rfl rfl
theorem am_plu (n : Nat → Nat → Int) (w : Nat → Int) : ∀ q, q < 3 → ∀ c, c < 3 → c ≠ q → ∀ j, j < 3 →
    am_D n * am_m (am_up n q w) c j = am_dot w (am_m n q) * am_m n c j - am_dot w (am_m n c) * am_m n q j := by
  refine am_3 ?_ ?_ ?_ <;> refine am_3 ?_ ?_ ?_ <;> intro h <;> first | exact absurd rfl h | skip
  all_goals refine am_3 ?_ ?_ ?_
  all_goals simp [am_D, am_m, am_crs, am_dot, am_up]
  all_goals grind
theorem am_mq (n : Nat → Nat → Int) (w : Nat → Int) : ∀ q, q < 3 → am_m (am_up n q w) q = am_m n q := by
  refine am_3 ?_ ?_ ?_ <;> simp [am_m, am_up]
theorem am_Dq (n : Nat → Nat → Int) (w : Nat → Int) : ∀ q, q < 3 → am_D (am_up n q w) = am_dot w (am_m n q) := by
  refine am_3 ?_ ?_ ?_ <;> simp [am_m, am_D, am_dot, am_crs, am_up] <;> grind
theorem am_cram (n : Nat → Nat → Int) (v : Nat → Int) (hv : v 3 = 0) : ∀ j, j < 3 → am_D n * v j = am_dot (n 0) v * am_m n 0 j + am_dot (n 1) v * am_m n 1 j + am_dot (n 2) v * am_m n 2 j := by
  refine am_3 ?_ ?_ ?_ <;> simp [am_m, am_D, am_dot, am_crs, hv] <;> grind
/-- the generic state with three columns -/
def am_Q (F G : Nat → Nat → Int) (rows wr : Nat) (u : Int) (T : Nat → Int) (rn cn : Nat → Nat) (X : Nat → Int) (d : Nat → Nat → Int) : Prop :=
  am_pic F G rows wr 3 u T rn cn X d ∧ X 3 = 0 ∧ (∀ c, c < 3 → d c 3 = 0) ∧ 0 < u ∧ ∃ s : Int, (s = 1 ∨ s = -1) ∧ u = s * am_D (fun c => F (cn c))
theorem am_Qd {F G : Nat → Nat → Int} {rows wr : Nat} {u : Int} {T : Nat → Int} {rn cn : Nat → Nat} {X : Nat → Int} {d : Nat → Nat → Int} (h : am_Q F G rows wr u T rn cn X d) :
    ∃ s : Int, (s = 1 ∨ s = -1) ∧ u = s * am_D (fun c => F (cn c)) ∧ (∀ c, c < 3 → ∀ j, j < 4 → d c j = s * am_m (fun c => F (cn c)) c j) ∧
      (∀ j, j < 4 → X j = -(s * (F (cn 0) 4 * am_m (fun c => F (cn c)) 0 j + F (cn 1) 4 * am_m (fun c => F (cn c)) 1 j + F (cn 2) 4 * am_m (fun c => F (cn c)) 2 j))) := by
  obtain ⟨⟨hF, hG, hJ, hK⟩, hX3, hd3, hu, s, hs, hD⟩ := h
  have ss := am_ss hs
  have eD : am_D (fun c => F (cn c)) = s * u := by rw [hD]; grind
  refine ⟨s, hs, hD, fun c hc => ?_, ?_⟩
  · have main : ∀ j, j < 3 → d c j = s * am_m (fun c => F (cn c)) c j := by
      intro j hj
      have k := am_cram (fun c => F (cn c)) (d c) (hd3 c hc) j hj
      simp only [hJ 0 c (by omega) hc, hJ 1 c (by omega) hc, hJ 2 c (by omega) hc, eD] at k
      have hc' : c = 0 ∨ c = 1 ∨ c = 2 := by omega
      refine am_canc hu ?_
      rcases hc' with e | e | e <;> subst e <;> simp at k <;> grind
    refine am_4 (main 0 (by omega)) (main 1 (by omega)) (main 2 (by omega)) ?_
    rw [hd3 c hc, am_m3 _ c hc]; omega
  · have main : ∀ j, j < 3 → X j = -(s * (F (cn 0) 4 * am_m (fun c => F (cn c)) 0 j + F (cn 1) 4 * am_m (fun c => F (cn c)) 1 j + F (cn 2) 4 * am_m (fun c => F (cn c)) 2 j)) := by
      intro j hj
      have k := am_cram (fun c => F (cn c)) X hX3 j hj
      have k0 := hK 0 (by omega)
      have k1 := hK 1 (by omega)
      have k2 := hK 2 (by omega)
      have e0 : am_dot (F (cn 0)) X = -(u * F (cn 0) 4) := by omega
      have e1 : am_dot (F (cn 1)) X = -(u * F (cn 1) 4) := by omega
      have e2 : am_dot (F (cn 2)) X = -(u * F (cn 2) 4) := by omega
      simp only [e0, e1, e2, eD] at k
      refine am_canc hu ?_
      grind
    refine am_4 (main 0 (by omega)) (main 1 (by omega)) (main 2 (by omega)) ?_
    rw [hX3, am_m3 _ 0 (by omega), am_m3 _ 1 (by omega), am_m3 _ 2 (by omega)]; omega
theorem am_upF (F : Nat → Nat → Int) (cn : Nat → Nat) (q v : Nat) : (fun c => F (am_up cn q v c)) = am_up (fun c => F (cn c)) q (F v) := by
  funext c
  unfold am_up
  by_cases h : c = q
  · simp only [if_pos h]
  · simp only [if_neg h]
theorem am_plX (n : Nat → Nat → Int) (w : Nat → Int) (K : Nat → Int) (Kw : Int) (q : Nat) (hq : q < 3) (j : Nat) (hj : j < 3) :
    am_D n * (am_up K q Kw 0 * am_m (am_up n q w) 0 j + am_up K q Kw 1 * am_m (am_up n q w) 1 j + am_up K q Kw 2 * am_m (am_up n q w) 2 j) =
      am_dot w (am_m n q) * (K 0 * am_m n 0 j + K 1 * am_m n 1 j + K 2 * am_m n 2 j) - (K 0 * am_dot w (am_m n 0) + K 1 * am_dot w (am_m n 1) + K 2 * am_dot w (am_m n 2)) * am_m n q j + am_D n * Kw * am_m n q j := by
  have hq' : q = 0 ∨ q = 1 ∨ q = 2 := by omega
  rcases hq' with e | e | e <;> subst e
  · have a := am_plu n w 0 (by omega) 1 (by omega) (by omega) j hj
    have b := am_plu n w 0 (by omega) 2 (by omega) (by omega) j hj
    have c := am_mq n w 0 (by omega)
    rw [c, am_ups, am_upn K Kw (show 1 ≠ 0 by omega), am_upn K Kw (show 2 ≠ 0 by omega)]
    grind
  · have a := am_plu n w 1 (by omega) 0 (by omega) (by omega) j hj
    have b := am_plu n w 1 (by omega) 2 (by omega) (by omega) j hj
    have c := am_mq n w 1 (by omega)
    rw [c, am_ups, am_upn K Kw (show 0 ≠ 1 by omega), am_upn K Kw (show 2 ≠ 1 by omega)]
    grind
  · have a := am_plu n w 2 (by omega) 0 (by omega) (by omega) j hj
    have b := am_plu n w 2 (by omega) 1 (by omega) (by omega) j hj
    have c := am_mq n w 2 (by omega)
    rw [c, am_ups, am_upn K Kw (show 0 ≠ 2 by omega), am_upn K Kw (show 1 ≠ 2 by omega)]
    grind
theorem am_dotS (f A B : Nat → Int) (s : Int) (h : ∀ j, j < 4 → A j = s * B j) : am_dot f A = s * am_dot f B := by
  unfold am_dot
  rw [h 0 (by omega), h 1 (by omega), h 2 (by omega), h 3 (by omega)]
  grind
theorem am_dotX (f X : Nat → Int) (m : Nat → Nat → Int) (s K0 K1 K2 : Int) (h : ∀ j, j < 4 → X j = -(s * (K0 * m 0 j + K1 * m 1 j + K2 * m 2 j))) :
    am_dot f X = -(s * (K0 * am_dot f (m 0) + K1 * am_dot f (m 1) + K2 * am_dot f (m 2))) := by
  unfold am_dot
  rw [h 0 (by omega), h 1 (by omega), h 2 (by omega), h 3 (by omega)]
  grind
theorem am_Qx {F G : Nat → Nat → Int} {rows wr : Nat} {u : Int} {T : Nat → Int} {rn cn : Nat → Nat} {X : Nat → Int} {d : Nat → Nat → Int} (h : am_Q F G rows wr u T rn cn X d)
    {row q : Nat} (hr : row < rows) (hq : q < 3) {sp : Int} (hsp : sp = 1 ∨ sp = -1) (hp : 0 < sp * T (row * 5 + q)) :
    ∃ X' d', am_Q F G rows wr (am_ab (T (row * 5 + q))) (am_ex T row q u 3 (rows + wr)) (am_up rn row (cn q)) (am_up cn q (rn row)) X' d' ∧
      (∀ j, j < 4 → u * X' j = sp * (T (row * 5 + q) * X j + T (row * 5 + 4) * d q j)) := by
  obtain ⟨s, hs, hD, hd, hX⟩ := am_Qd h
  obtain ⟨pic, hX3, hd3, hu, _⟩ := h
  have ss := am_ss hs
  have ssp := am_ss hsp
  obtain ⟨w1, w2⟩ := pic.1 row hr
  have dq : ∀ c, c < 3 → am_dot (F (rn row)) (d c) = s * am_dot (F (rn row)) (am_m (fun c => F (cn c)) c) := fun c hc => am_dotS _ _ _ s (hd c hc)
  have Tc : ∀ c, c < 3 → T (row * 5 + c) = -(s * am_dot (F (rn row)) (am_m (fun c => F (cn c)) c)) := fun c hc => by rw [w1 c hc, dq c hc]
  have TX := am_dotX (F (rn row)) X (am_m (fun c => F (cn c))) s (F (cn 0) 4) (F (cn 1) 4) (F (cn 2) 4) hX
  have eD := am_Dq (fun c => F (cn c)) (F (rn row)) q hq
  have hXX : ∀ j, j < 4 → u * (-(-(sp * s) * (F (am_up cn q (rn row) 0) 4 * am_m (am_up (fun c => F (cn c)) q (F (rn row))) 0 j + F (am_up cn q (rn row) 1) 4 * am_m (am_up (fun c => F (cn c)) q (F (rn row))) 1 j + F (am_up cn q (rn row) 2) 4 * am_m (am_up (fun c => F (cn c)) q (F (rn row))) 2 j))) = sp * (T (row * 5 + q) * X j + T (row * 5 + 4) * d q j) := by
    have main : ∀ j, j < 3 → u * (-(-(sp * s) * (F (am_up cn q (rn row) 0) 4 * am_m (am_up (fun c => F (cn c)) q (F (rn row))) 0 j + F (am_up cn q (rn row) 1) 4 * am_m (am_up (fun c => F (cn c)) q (F (rn row))) 1 j + F (am_up cn q (rn row) 2) 4 * am_m (am_up (fun c => F (cn c)) q (F (rn row))) 2 j))) = sp * (T (row * 5 + q) * X j + T (row * 5 + 4) * d q j) := by
      intro j hj
      have k := am_plX (fun c => F (cn c)) (F (rn row)) (fun c => F (cn c) 4) (F (rn row) 4) q hq j hj
      have ek : ∀ c, F (am_up cn q (rn row) c) 4 = am_up (fun c => F (cn c) 4) q (F (rn row) 4) c := by
        intro c
        unfold am_up
        by_cases h : c = q
        · simp only [if_pos h]
        · simp only [if_neg h]
      rw [ek 0, ek 1, ek 2, Tc q hq, w2, TX, hX j (by omega), hd q hq j (by omega), hD]
      generalize am_up (fun c => F (cn c) 4) q (F (rn row) 4) 0 * am_m (am_up (fun c => F (cn c)) q (F (rn row))) 0 j + am_up (fun c => F (cn c) 4) q (F (rn row) 4) 1 * am_m (am_up (fun c => F (cn c)) q (F (rn row))) 1 j + am_up (fun c => F (cn c) 4) q (F (rn row) 4) 2 * am_m (am_up (fun c => F (cn c)) q (F (rn row))) 2 j = A at k ⊢
      generalize am_D (fun c => F (cn c)) = D at k ⊢
      generalize am_dot (F (rn row)) (am_m (fun c => F (cn c)) q) = wq at k ⊢
      have e1 : s * D * -(-(sp * s) * A) = (s * s) * sp * (D * A) := by grind
      rw [e1, k, ss]
      grind
    refine am_4 (main 0 (by omega)) (main 1 (by omega)) (main 2 (by omega)) ?_
    rw [hX3, hd3 q hq, am_m3 _ 0 (by omega), am_m3 _ 1 (by omega), am_m3 _ 2 (by omega)]; grind
  refine ⟨fun j => -(-(sp * s) * (F (am_up cn q (rn row) 0) 4 * am_m (am_up (fun c => F (cn c)) q (F (rn row))) 0 j + F (am_up cn q (rn row) 1) 4 * am_m (am_up (fun c => F (cn c)) q (F (rn row))) 1 j + F (am_up cn q (rn row) 2) 4 * am_m (am_up (fun c => F (cn c)) q (F (rn row))) 2 j)), fun c j => -(sp * s) * am_m (am_up (fun c => F (cn c)) q (F (rn row))) c j, ⟨?_, ?_, ?_, ?_, ?_⟩, hXX⟩
  · refine am_pivot pic hu hr hq (by omega) hsp hp hXX ?_ ?_
    · intro c hc hcq
      have main : ∀ j, j < 3 → u * (-(sp * s) * am_m (am_up (fun c => F (cn c)) q (F (rn row))) c j) = sp * (T (row * 5 + q) * d c j - T (row * 5 + c) * d q j) := by
        intro j hj
        have k := am_plu (fun c => F (cn c)) (F (rn row)) q hq c hc hcq j hj
        rw [Tc q hq, Tc c hc, hd c hc j (by omega), hd q hq j (by omega), hD]
        have e1 : s * am_D (fun c => F (cn c)) * (-(sp * s) * am_m (am_up (fun c => F (cn c)) q (F (rn row))) c j) = -((s * s) * sp * (am_D (fun c => F (cn c)) * am_m (am_up (fun c => F (cn c)) q (F (rn row))) c j)) := by grind
        rw [e1, k, ss]
        grind
      refine am_4 (main 0 (by omega)) (main 1 (by omega)) (main 2 (by omega)) ?_
      rw [hd3 c hc, hd3 q hq, am_m3 _ c hc]; grind
    · intro j hj
      show -(sp * s) * am_m (am_up (fun c => F (cn c)) q (F (rn row))) q j = -(sp * d q j)
      rw [am_mq _ _ q hq, hd q hq j hj]; grind
  · show -(-(sp * s) * _) = (0 : Int)
    rw [am_m3 _ 0 (by omega), am_m3 _ 1 (by omega), am_m3 _ 2 (by omega)]; grind
  · intro c hc
    show -(sp * s) * am_m _ c 3 = 0
    rw [am_m3 _ c hc]; grind
  · rw [am_ab_sgn hsp hp]; exact hp
  · refine ⟨-(sp * s), ?_, ?_⟩
    · rcases hs with e | e <;> rcases hsp with e' | e' <;> subst e <;> subst e' <;> simp
    · rw [am_upF, eD, am_ab_sgn hsp hp, Tc q hq]; grind
/-! how large the cells can be -/
theorem am_bm {x y : Int} {a b : Nat} (hx : x.natAbs ≤ a) (hy : y.natAbs ≤ b) : (x * y).natAbs ≤ a * b := by
  rw [Int.natAbs_mul]; exact Nat.mul_le_mul hx hy
/-- forms of small numbers -/
def am_sm (f : Nat → Int) : Prop := (∀ j, j < 3 → (f j).natAbs ≤ 7) ∧ (f 4).natAbs ≤ 600
theorem am_crsb {a b : Nat → Int} (ha : am_sm a) (hb : am_sm b) : ∀ j, j < 4 → (am_crs a b j).natAbs ≤ 98 := by
  have h : ∀ i k, i < 3 → k < 3 → (a i * b k).natAbs ≤ 7 * 7 := fun i k hi hk => am_bm (ha.1 i hi) (hb.1 k hk)
  have h12 := h 1 2 (by omega) (by omega)
  have h21 := h 2 1 (by omega) (by omega)
  have h20 := h 2 0 (by omega) (by omega)
  have h02 := h 0 2 (by omega) (by omega)
  have h01 := h 0 1 (by omega) (by omega)
  have h10 := h 1 0 (by omega) (by omega)
  refine am_4 ?_ ?_ ?_ ?_
  · show (a 1 * b 2 - a 2 * b 1).natAbs ≤ 98
    omega
  · show (a 2 * b 0 - a 0 * b 2).natAbs ≤ 98
    omega
  · show (a 0 * b 1 - a 1 * b 0).natAbs ≤ 98
    omega
  · show (0 : Int).natAbs ≤ 98
    omega
theorem am_mb {n : Nat → Nat → Int} (h : ∀ c, c < 3 → am_sm (n c)) : ∀ c, c < 3 → ∀ j, j < 4 → (am_m n c j).natAbs ≤ 98 := by
  refine am_3 ?_ ?_ ?_
  · exact am_crsb (h 1 (by omega)) (h 2 (by omega))
  · exact am_crsb (h 2 (by omega)) (h 0 (by omega))
  · exact am_crsb (h 0 (by omega)) (h 1 (by omega))
theorem am_dotb {f v : Nat → Int} {B : Nat} (hf : am_sm f) (hv : ∀ j, j < 4 → (v j).natAbs ≤ B) (hv3 : v 3 = 0) : (am_dot f v).natAbs ≤ 21 * B := by
  have h0 := am_bm (hf.1 0 (by omega)) (hv 0 (by omega))
  have h1 := am_bm (hf.1 1 (by omega)) (hv 1 (by omega))
  have h2 := am_bm (hf.1 2 (by omega)) (hv 2 (by omega))
  unfold am_dot
  rw [hv3]
  omega
/-- all forms that occur are small -/
def am_sms (F G : Nat → Nat → Int) : Prop := (∀ v, am_sm (F v)) ∧ (∀ w, am_sm (G w))
theorem am_Qb {F G : Nat → Nat → Int} {rows wr : Nat} {u : Int} {T : Nat → Int} {rn cn : Nat → Nat} {X : Nat → Int} {d : Nat → Nat → Int} (h : am_Q F G rows wr u T rn cn X d) (hs : am_sms F G) :
    (∀ r c, r < rows + wr → (c < 3 ∨ c = 4) → (T (r * 5 + c)).natAbs ≤ 5000000) ∧ u.natAbs ≤ 2058 ∧ (∀ j, j < 4 → (X j).natAbs ≤ 176400) := by
  obtain ⟨s, hs1, hD, hd, hX⟩ := am_Qd h
  obtain ⟨⟨hF, hG, _, _⟩, hX3, hd3, hu, _⟩ := h
  have sa : ∀ x : Int, (s * x).natAbs = x.natAbs := by
    intro x
    rcases hs1 with e | e <;> subst e <;> omega
  have mb := am_mb (n := fun c => F (cn c)) (fun c _ => hs.1 (cn c))
  have db : ∀ c, c < 3 → ∀ j, j < 4 → (d c j).natAbs ≤ 98 := fun c hc j hj => by rw [hd c hc j hj, sa]; exact mb c hc j hj
  have Xb : ∀ j, j < 4 → (X j).natAbs ≤ 176400 := by
    intro j hj
    rw [hX j hj, Int.natAbs_neg, sa]
    have k0 := am_bm (hs.1 (cn 0)).2 (mb 0 (by omega) j hj)
    have k1 := am_bm (hs.1 (cn 1)).2 (mb 1 (by omega) j hj)
    have k2 := am_bm (hs.1 (cn 2)).2 (mb 2 (by omega) j hj)
    omega
  have ub : u.natAbs ≤ 2058 := by
    rw [hD, sa]
    exact am_dotb (hs.1 (cn 0)) (mb 0 (by omega)) (am_m3 _ 0 (by omega))
  have rowb : ∀ r f, am_sm f → am_row f 3 u T r X d → ∀ c, (c < 3 ∨ c = 4) → (T (r * 5 + c)).natAbs ≤ 5000000 := by
    intro r f hf hrow c hc
    rcases hc with hc | hc
    · rw [hrow.1 c hc, Int.natAbs_neg]
      have := am_dotb hf (db c hc) (hd3 c hc)
      omega
    · subst hc
      rw [hrow.2]
      have k := am_dotb hf Xb hX3
      have k2 := am_bm ub hf.2
      omega
  refine ⟨fun r c hr hc => ?_, ub, Xb⟩
  by_cases e : r < rows
  · exact rowb r _ (hs.1 _) (hF r e) c hc
  · have := rowb (rows + (r - rows)) _ (hs.2 _) (hG (r - rows) (by omega)) c hc
    rw [show rows + (r - rows) = r by omega] at this
    exact this
end
section
section
variable {pr_ wo_ ro_ tu_ co_ fw_ wc_ li_ em_ hh_ hl_ br_ l3_ g3_ : Int32} {un_ wt_ wb_ ht_ hb_ lt_ lb_ : Int64} {a1 a2 a3 a4 a5 a6 a7 a8 a9 a11 a12 a18 a19 : Nat → Int32} {a10 a13 a14 a15 a16 a17 : Nat → Int64}
theorem am_cellx {post : Int64 → Prop} {x y : Int32} (r c : Nat) (hx : x = nI r) (hy : y = nI c) (hr : r < 21) (hc : c < 5) (h : post (a10 (r * 5 + c))) : wpX_cell post (pr_, wo_, ro_, tu_, un_, co_, fw_, wc_, wt_, wb_, li_, em_, hh_, ht_, hb_, hl_, lt_, lb_, br_, l3_, g3_, a1, a2, a3, a4, a5, a6, a7, a8, a9, a10, a11, a12, a13, a14, a15, a16, a17, a18, a19) x y := by
  subst hx hy
  exact am_cell hr hc h
/-- the column's first worth that isn't 0 is below 0 -/
def am_hp (T : Nat → Int) (fk k c : Nat) : Prop := ∃ w, w < k ∧ T ((fk + w) * 5 + c) < 0 ∧ ∀ w', w' < w → T ((fk + w') * 5 + c) = 0
theorem am_helps {post : Int32 → Prop} {T : Nat → Int} {fk k c : Nat} (hb : ∀ w, w < k → am_B (T ((fk + w) * 5 + c))) (hfk : fk + k ≤ 21) (hc : c < 5)
    (h1 : am_hp T fk k c → post 1) (h0 : ¬ am_hp T fk k c → post 0) : wpX_helps post (pr_, wo_, ro_, tu_, un_, co_, nI fk, nI k, wt_, wb_, li_, em_, hh_, ht_, hb_, hl_, lt_, lb_, br_, l3_, g3_, a1, a2, a3, a4, a5, a6, a7, a8, a9, am_lf T, a11, a12, a13, a14, a15, a16, a17, a18, a19) (nI c) := by
  unfold wpX_helps
  refine pk_loop (σ := Unit) (fun n w _ => wX_helps_2 post (nI c) pr_ wo_ ro_ tu_ un_ co_ (nI fk) (nI k) wt_ wb_ li_ em_ hh_ ht_ hb_ hl_ lt_ lb_ br_ l3_ g3_ a1 a2 a3 a4 a5 a6 a7 a8 a9 (am_lf T) a11 a12 a13 a14 a15 a16 a17 a18 a19 n (nI w)) (fun w _ => ∀ w', w' < w → T ((fk + w') * 5 + c) = 0) k 0 () (by omega) (fun w hw => absurd hw (by omega)) ?_ ?_
  · intro n _ hI
    refine pk_le k k (fun _ => h0 ?_) (fun z => absurd z (by omega))
    rintro ⟨w, hw, hl, _⟩
    have := hI w hw
    omega
  · intro n w _ hw hI hn
    refine pk_le k w (fun z => absurd z (by omega)) (fun _ => ?_)
    refine am_cellx (fk + w) c (nI_add fk w) rfl (by omega) hc ?_
    refine am_eq (T ((fk + w) * 5 + c)) 0 (am_BW (hb w hw)) am_W0 (fun z => nm_r (nI_1 w) (hn () ?_)) (fun z => ?_)
    · intro w' hw'
      by_cases e : w' = w
      · rw [e]; exact z
      · exact hI w' (by omega)
    · refine am_le 0 (T ((fk + w) * 5 + c)) am_W0 (am_BW (hb w hw)) (fun z2 => h0 ?_) (fun z2 => h1 ⟨w, hw, z2, hI⟩)
      rintro ⟨w2, hw2, hl, hz⟩
      rcases Nat.lt_trichotomy w2 w with g | g | g
      · have := hI w2 g; omega
      · subst g; omega
      · exact z (hz w g)
theorem am_m1ne {b : Nat} (h : b < 2 ^ 31) : ¬ nI b < 0 := nI_pos h
theorem am_entering {post : Int32 → Prop} {T : Nat → Int} {cn : Nat → Nat} {fk k cols : Nat} (hb : ∀ c w, c < cols → w < k → am_B (T ((fk + w) * 5 + c))) (hfk : fk + k ≤ 21) (hcols : cols ≤ 4) (hcn : ∀ c, c < cols → cn c < 128)
    (h0 : (∀ c, c < cols → ¬ am_hp T fk k c) → post (-1)) (h1 : ∀ b, b < cols → am_hp T fk k b → (∀ c, c < cols → am_hp T fk k c → cn b ≤ cn c) → post (nI b)) :
    wpX_entering post (pr_, wo_, ro_, tu_, un_, nI cols, nI fk, nI k, wt_, wb_, li_, em_, hh_, ht_, hb_, hl_, lt_, lb_, br_, l3_, g3_, a1, a2, a3, a4, a5, a6, a7, a8, a9, am_lf T, a11, am_nf cn, a13, a14, a15, a16, a17, a18, a19) := by
  unfold wpX_entering
  refine pk_loop (fun n c (s : Int32) => wX_entering_4 post pr_ wo_ ro_ tu_ un_ (nI cols) (nI fk) (nI k) wt_ wb_ li_ em_ hh_ ht_ hb_ hl_ lt_ lb_ br_ l3_ g3_ a1 a2 a3 a4 a5 a6 a7 a8 a9 (am_lf T) a11 (am_nf cn) a13 a14 a15 a16 a17 a18 a19 n s (nI c)) (fun c s => (s = -1 ∧ ∀ c', c' < c → ¬ am_hp T fk k c') ∨ ∃ b, b < c ∧ s = nI b ∧ am_hp T fk k b ∧ ∀ c', c' < c → am_hp T fk k c' → cn b ≤ cn c') cols 0 (-1) (by omega) (Or.inl ⟨rfl, fun c hc => absurd hc (by omega)⟩) ?_ ?_
  · intro n s hI
    refine pk_le cols cols (fun _ => ?_) (fun z => absurd z (by omega))
    rcases hI with ⟨e, hz⟩ | ⟨b, hbc, e, hh, hm⟩
    · subst e; exact h0 hz
    · subst e; exact h1 b hbc hh hm
  · intro n c s hc hI hn
    refine pk_le cols c (fun z => absurd z (by omega)) (fun _ => ?_)
    refine am_helps (fun w hw => hb c w hc hw) hfk (by omega) (fun g => br_f (by decide) ?_) (fun g => br_t rfl (nm_r (nI_1 c) (hn s ?_)))
    · rcases hI with ⟨e, hz⟩ | ⟨b, hbc, e, hh, hm⟩
      · subst e
        refine br_t (by decide) (nm_r (nI_1 c) (hn (nI c) (Or.inr ⟨c, by omega, rfl, g, ?_⟩)))
        intro c' hc' g'
        by_cases e : c' = c
        · rw [e]; omega
        · exact absurd g' (hz c' (by omega))
      · subst e
        refine br_f (nI_pos (by omega)) ⟨pk_in c 4 (by omega), pk_in b 4 (by omega), ?_⟩
        have hcb := hcn b (by omega)
        have hcc := hcn c hc
        refine pk_le (cn b) (cn c) (fun z => nm_r (nI_1 c) (hn (nI b) (Or.inr ⟨b, by omega, rfl, hh, ?_⟩))) (fun z => nm_r (nI_1 c) (hn (nI c) (Or.inr ⟨c, by omega, rfl, g, ?_⟩))) (by rw [nI_clamp (by omega)]; rfl) (by rw [nI_clamp (by omega)]; rfl)
        · intro c' hc' g'
          by_cases e : c' = c
          · rw [e]; omega
          · exact hm c' (by omega) g'
        · intro c' hc' g'
          by_cases e : c' = c
          · rw [e]; omega
          · have := hm c' (by omega) g'; omega
    · rcases hI with ⟨e, hz⟩ | ⟨b, hbc, e, hh, hm⟩
      · refine Or.inl ⟨e, fun c' hc' => ?_⟩
        by_cases e : c' = c
        · rw [e]; exact g
        · exact hz c' (by omega)
      · refine Or.inr ⟨b, by omega, e, hh, fun c' hc' g' => ?_⟩
        by_cases e : c' = c
        · rw [e] at g'; exact absurd g' g
        · exact hm c' (by omega) g'
/-- row b stops a column no later than row r -/
def am_lq (T : Nat → Int) (rn : Nat → Nat) (q b r : Nat) : Prop :=
  T (b * 5 + 4) * T (r * 5 + q) < T (r * 5 + 4) * T (b * 5 + q) ∨ (T (b * 5 + 4) * T (r * 5 + q) = T (r * 5 + 4) * T (b * 5 + q) ∧ rn b ≤ rn r)
theorem am_lqt {R1 R2 R3 c1 c2 c3 : Int} {n1 n2 n3 : Nat} (h1 : 0 < c1) (h2 : 0 < c2) (h3 : 0 < c3) (a : R1 * c2 < R2 * c1 ∨ (R1 * c2 = R2 * c1 ∧ n1 ≤ n2)) (b : R2 * c3 < R3 * c2 ∨ (R2 * c3 = R3 * c2 ∧ n2 ≤ n3)) :
    R1 * c3 < R3 * c1 ∨ (R1 * c3 = R3 * c1 ∧ n1 ≤ n3) := by
  have e1 : c2 * (R1 * c3) = c3 * (R1 * c2) := by grind
  have e2 : c2 * (R3 * c1) = c1 * (R3 * c2) := by grind
  have e3 : c1 * (R2 * c3) = c3 * (R2 * c1) := by grind
  rcases a with a | ⟨a, an⟩ <;> rcases b with b | ⟨b, bn⟩
  · have x1 := Int.mul_lt_mul_of_pos_left a h3
    have x2 := Int.mul_lt_mul_of_pos_left b h1
    exact Or.inl (Int.lt_of_mul_lt_mul_left (a := c2) (by omega) (by omega))
  · have x1 := Int.mul_lt_mul_of_pos_left a h3
    have x2 : c1 * (R2 * c3) = c1 * (R3 * c2) := by rw [b]
    exact Or.inl (Int.lt_of_mul_lt_mul_left (a := c2) (by omega) (by omega))
  · have x1 : c3 * (R1 * c2) = c3 * (R2 * c1) := by rw [a]
    have x2 := Int.mul_lt_mul_of_pos_left b h1
    exact Or.inl (Int.lt_of_mul_lt_mul_left (a := c2) (by omega) (by omega))
  · have x1 : c3 * (R1 * c2) = c3 * (R2 * c1) := by rw [a]
    have x2 : c1 * (R2 * c3) = c1 * (R3 * c2) := by rw [b]
    exact Or.inr ⟨Int.eq_of_mul_eq_mul_left (a := c2) (by omega) (by omega), by omega⟩
theorem am_leaving {post : Int32 → Prop} {T : Nat → Int} {rn : Nat → Nat} {rows q : Nat} (hb : ∀ r c, r < rows → (c = q ∨ c = 4) → am_B (T (r * 5 + c))) (hrows : rows ≤ 16) (hq : q < 4) (hrn : ∀ r, r < rows → rn r < 128)
    (h0 : (∀ r, r < rows → T (r * 5 + q) ≤ 0) → post (-1)) (h1 : ∀ b, b < rows → 0 < T (b * 5 + q) → (∀ r, r < rows → 0 < T (r * 5 + q) → am_lq T rn q b r) → post (nI b)) :
    wpX_leaving post (pr_, wo_, nI rows, tu_, un_, co_, fw_, wc_, wt_, wb_, li_, em_, hh_, ht_, hb_, hl_, lt_, lb_, br_, l3_, g3_, a1, a2, a3, a4, a5, a6, a7, a8, a9, am_lf T, am_nf rn, a12, a13, a14, a15, a16, a17, a18, a19) (nI q) := by
  unfold wpX_leaving
  refine pk_loop (fun n r (s : Int32) => wX_leaving_4 post (nI q) pr_ wo_ (nI rows) tu_ un_ co_ fw_ wc_ wt_ wb_ li_ em_ hh_ ht_ hb_ hl_ lt_ lb_ br_ l3_ g3_ a1 a2 a3 a4 a5 a6 a7 a8 a9 (am_lf T) (am_nf rn) a12 a13 a14 a15 a16 a17 a18 a19 n s (nI r)) (fun r s => (s = -1 ∧ ∀ r', r' < r → T (r' * 5 + q) ≤ 0) ∨ ∃ b, b < r ∧ s = nI b ∧ 0 < T (b * 5 + q) ∧ ∀ r', r' < r → 0 < T (r' * 5 + q) → am_lq T rn q b r') rows 0 (-1) (by omega) (Or.inl ⟨rfl, fun c hc => absurd hc (by omega)⟩) ?_ ?_
  · intro n s hI
    refine pk_le rows rows (fun _ => ?_) (fun z => absurd z (by omega))
    rcases hI with ⟨e, hz⟩ | ⟨b, hbc, e, hh, hm⟩
    · subst e; exact h0 hz
    · subst e; exact h1 b hbc hh hm
  · intro n r s hr hI hn
    have br := hb r q hr (Or.inl rfl)
    have br4 := hb r 4 hr (Or.inr rfl)
    refine pk_le rows r (fun z => absurd z (by omega)) (fun _ => ?_)
    refine am_cellx r q rfl rfl (by omega) (by omega) ?_
    refine am_le (T (r * 5 + q)) 0 (am_BW br) am_W0 (fun g => nm_r (nI_1 r) (hn s ?_)) (fun g => ?_)
    · rcases hI with ⟨e, hz⟩ | ⟨b, hbc, e, hh, hm⟩
      · refine Or.inl ⟨e, fun c' hc' => ?_⟩
        by_cases e : c' = r
        · rw [e]; exact g
        · exact hz c' (by omega)
      · refine Or.inr ⟨b, by omega, e, hh, fun c' hc' g' => ?_⟩
        by_cases e : c' = r
        · rw [e] at g'; omega
        · exact hm c' (by omega) g'
    · rcases hI with ⟨e, hz⟩ | ⟨b, hbc, e, hh, hm⟩
      · subst e
        refine br_f (by decide) (br_f (by decide) ?_)
        unfold wX_leaving_69 wX_leaving_102 wX_leaving_107
        refine am_lt (-1) 0 (by unfold am_W; omega) am_W0 (fun _ => br_f (by decide) (nm_r (nI_1 r) (hn (nI r) (Or.inr ⟨r, by omega, rfl, g, ?_⟩)))) (fun z => absurd z (by omega))
        intro c' hc' g'
        by_cases e : c' = r
        · subst e; exact Or.inr ⟨rfl, Nat.le_refl _⟩
        · have := hz c' (by omega); omega
      · subst e
        have bb := hb b q (by omega) (Or.inl rfl)
        have bb4 := hb b 4 (by omega) (Or.inr rfl)
        refine br_t (nI_pos' (by omega)) (am_cellx r 4 rfl rfl (by omega) (by omega) (am_cellx b q rfl rfl (by omega) (by omega) ?_))
        refine br_t (nI_pos' (by omega)) (am_cellx b 4 rfl rfl (by omega) (by omega) ?_)
        have take : am_lq T rn q r b → wX_leaving_102 post (wX_leaving_4 post (nI q) pr_ wo_ (nI rows) tu_ un_ co_ fw_ wc_ wt_ wb_ li_ em_ hh_ ht_ hb_ hl_ lt_ lb_ br_ l3_ g3_ a1 a2 a3 a4 a5 a6 a7 a8 a9 (am_lf T) (am_nf rn) a12 a13 a14 a15 a16 a17 a18 a19 n) (nI q) (nI b) (nI r) pr_ wo_ (nI rows) tu_ un_ co_ fw_ wc_ wt_ wb_ li_ em_ hh_ ht_ hb_ hl_ lt_ lb_ br_ l3_ g3_ a1 a2 a3 a4 a5 a6 a7 a8 a9 (am_lf T) (am_nf rn) a12 a13 a14 a15 a16 a17 a18 a19 := by
          intro hl
          unfold wX_leaving_102 wX_leaving_107
          refine br_f (by decide) (nm_r (nI_1 r) (hn (nI r) (Or.inr ⟨r, by omega, rfl, g, ?_⟩)))
          intro c' hc' g'
          by_cases e : c' = r
          · subst e; exact Or.inr ⟨rfl, Nat.le_refl _⟩
          · exact am_lqt g hh g' hl (hm c' (by omega) g')
        have keep : am_lq T rn q b r → wX_leaving_106 post (wX_leaving_4 post (nI q) pr_ wo_ (nI rows) tu_ un_ co_ fw_ wc_ wt_ wb_ li_ em_ hh_ ht_ hb_ hl_ lt_ lb_ br_ l3_ g3_ a1 a2 a3 a4 a5 a6 a7 a8 a9 (am_lf T) (am_nf rn) a12 a13 a14 a15 a16 a17 a18 a19 n) (nI q) (nI b) (nI r) pr_ wo_ (nI rows) tu_ un_ co_ fw_ wc_ wt_ wb_ li_ em_ hh_ ht_ hb_ hl_ lt_ lb_ br_ l3_ g3_ a1 a2 a3 a4 a5 a6 a7 a8 a9 (am_lf T) (am_nf rn) a12 a13 a14 a15 a16 a17 a18 a19 := by
          intro hl
          unfold wX_leaving_106 wX_leaving_107
          refine br_t rfl (nm_r (nI_1 r) (hn (nI b) (Or.inr ⟨b, by omega, rfl, hh, ?_⟩)))
          intro c' hc' g'
          by_cases e : c' = r
          · subst e; exact hl
          · exact hm c' (by omega) g'
        have hrb := hrn b (by omega)
        have hrr := hrn r hr
        unfold wX_leaving_69
        have em : am_lf T (r * 5 + 4) * am_lf T (b * 5 + q) = am_L (T (r * 5 + 4) * T (b * 5 + q)) := am_Lmul _ _
        have ei : am_lf T (b * 5 + 4) * am_lf T (r * 5 + q) = am_L (T (b * 5 + 4) * T (r * 5 + q)) := am_Lmul _ _
        rw [em, ei]
        refine am_lt (T (r * 5 + 4) * T (b * 5 + q)) (T (b * 5 + 4) * T (r * 5 + q)) (am_mulW br4 bb) (am_mulW bb4 br) (fun z => take (Or.inl z)) (fun z => am_eq (T (r * 5 + 4) * T (b * 5 + q)) (T (b * 5 + 4) * T (r * 5 + q)) (am_mulW br4 bb) (am_mulW bb4 br) (fun z2 => ⟨pk_in r 16 (by omega), pk_in b 16 (by omega), ?_⟩) (fun z2 => keep (Or.inl (by omega))))
        exact pk_le (rn b) (rn r) (fun z3 => keep (Or.inr ⟨by omega, z3⟩)) (fun z3 => take (Or.inr ⟨by omega, by omega⟩)) (by rw [nI_clamp (by omega)]; rfl) (by rw [nI_clamp (by omega)]; rfl)
theorem am_brokenRow {post : Int32 → Prop} {T : Nat → Int} {rn : Nat → Nat} {rows : Nat} (hb : ∀ r, r < rows → am_B (T (r * 5 + 4))) (hrows : rows ≤ 16) (hrn : ∀ r, r < rows → rn r < 128)
    (h0 : (∀ r, r < rows → 0 ≤ T (r * 5 + 4)) → post (-1)) (h1 : ∀ b, b < rows → T (b * 5 + 4) < 0 → post (nI b)) :
    wpX_brokenRow post (pr_, wo_, nI rows, tu_, un_, co_, fw_, wc_, wt_, wb_, li_, em_, hh_, ht_, hb_, hl_, lt_, lb_, br_, l3_, g3_, a1, a2, a3, a4, a5, a6, a7, a8, a9, am_lf T, am_nf rn, a12, a13, a14, a15, a16, a17, a18, a19) := by
  unfold wpX_brokenRow
  refine pk_loop (fun n r (s : Int32) => wX_brokenRow_4 post pr_ wo_ (nI rows) tu_ un_ co_ fw_ wc_ wt_ wb_ li_ em_ hh_ ht_ hb_ hl_ lt_ lb_ br_ l3_ g3_ a1 a2 a3 a4 a5 a6 a7 a8 a9 (am_lf T) (am_nf rn) a12 a13 a14 a15 a16 a17 a18 a19 n s (nI r)) (fun r s => (s = -1 ∧ ∀ r', r' < r → 0 ≤ T (r' * 5 + 4)) ∨ ∃ b, b < r ∧ s = nI b ∧ T (b * 5 + 4) < 0) rows 0 (-1) (by omega) (Or.inl ⟨rfl, fun c hc => absurd hc (by omega)⟩) ?_ ?_
  · intro n s hI
    refine pk_le rows rows (fun _ => ?_) (fun z => absurd z (by omega))
    rcases hI with ⟨e, hz⟩ | ⟨b, hbc, e, hh⟩
    · subst e; exact h0 hz
    · subst e; exact h1 b hbc hh
  · intro n r s hr hI hn
    refine pk_le rows r (fun z => absurd z (by omega)) (fun _ => ?_)
    refine am_cellx r 4 rfl rfl (by omega) (by omega) ?_
    refine am_le 0 (T (r * 5 + 4)) am_W0 (am_BW (hb r hr)) (fun g => nm_r (nI_1 r) (hn s ?_)) (fun g => ?_)
    · rcases hI with ⟨e, hz⟩ | ⟨b, hbc, e, hh⟩
      · refine Or.inl ⟨e, fun c' hc' => ?_⟩
        by_cases e : c' = r
        · rw [e]; exact g
        · exact hz c' (by omega)
      · exact Or.inr ⟨b, by omega, e, hh⟩
    · have new := hn (nI r) (Or.inr ⟨r, by omega, rfl, g⟩)
      rcases hI with ⟨e, hz⟩ | ⟨b, hbc, e, hh⟩
      · subst e
        exact br_t (by decide) (nm_r (nI_1 r) new)
      · subst e
        have hrb := hrn b (by omega)
        have hrr := hrn r hr
        refine br_f (nI_pos (by omega)) ⟨pk_in r 16 (by omega), pk_in b 16 (by omega), ?_⟩
        exact pk_le (rn b) (rn r) (fun z => nm_r (nI_1 r) (hn (nI b) (Or.inr ⟨b, by omega, rfl, hh⟩))) (fun z => nm_r (nI_1 r) new) (by rw [nI_clamp (by omega)]; rfl) (by rw [nI_clamp (by omega)]; rfl)
theorem am_lowestRow {post : Int32 → Prop} {T : Nat → Int} {rows : Nat} (hb : ∀ r, r < rows → am_B (T (r * 5 + 4))) (hrows : rows ≤ 16) (hrows1 : 1 ≤ rows)
    (h1 : ∀ b, b < rows → (∀ r, r < rows → T (b * 5 + 4) ≤ T (r * 5 + 4)) → post (nI b)) :
    wpX_lowestRow post (pr_, wo_, nI rows, tu_, un_, co_, fw_, wc_, wt_, wb_, li_, em_, hh_, ht_, hb_, hl_, lt_, lb_, br_, l3_, g3_, a1, a2, a3, a4, a5, a6, a7, a8, a9, am_lf T, a11, a12, a13, a14, a15, a16, a17, a18, a19) := by
  unfold wpX_lowestRow
  refine pk_loop (fun n r (s : Int32) => wX_lowestRow_4 post pr_ wo_ (nI rows) tu_ un_ co_ fw_ wc_ wt_ wb_ li_ em_ hh_ ht_ hb_ hl_ lt_ lb_ br_ l3_ g3_ a1 a2 a3 a4 a5 a6 a7 a8 a9 (am_lf T) a11 a12 a13 a14 a15 a16 a17 a18 a19 n s (nI r)) (fun r s => ∃ b, b < r ∧ s = nI b ∧ ∀ r', r' < r → T (b * 5 + 4) ≤ T (r' * 5 + 4)) rows 1 0 (by omega) ⟨0, by omega, rfl, fun c hc => by rw [show c = 0 by omega]; exact Int.le_refl _⟩ ?_ ?_
  · intro n s hI
    refine pk_le rows rows (fun _ => ?_) (fun z => absurd z (by omega))
    obtain ⟨b, hbc, e, hh⟩ := hI
    subst e; exact h1 b hbc hh
  · intro n r s hr hI hn
    obtain ⟨b, hbc, e, hh⟩ := hI
    subst e
    refine pk_le rows r (fun z => absurd z (by omega)) (fun _ => ?_)
    refine am_cellx r 4 rfl rfl (by omega) (by omega) (am_cellx b 4 rfl rfl (by omega) (by omega) ?_)
    refine am_le (T (b * 5 + 4)) (T (r * 5 + 4)) (am_BW (hb b (by omega))) (am_BW (hb r hr)) (fun g => nm_r (nI_1 r) (hn (nI b) ⟨b, by omega, rfl, ?_⟩)) (fun g => nm_r (nI_1 r) (hn (nI r) ⟨r, by omega, rfl, ?_⟩))
    · intro c' hc'
      by_cases e : c' = r
      · rw [e]; exact g
      · exact hh c' (by omega)
    · intro c' hc'
      by_cases e : c' = r
      · rw [e]; omega
      · have := hh c' (by omega); omega
theorem am_losesLess {post : Int32 → Prop} {T : Nat → Int} {cn : Nat → Nat} {fk k cols c d row : Nat} (hc : c < 4) (hd : d < 4) (hrow : row < 21) (hfk : fk + k ≤ 21) (h0 : post 0) (h1 : post 1) :
    wpX_losesLess post (pr_, wo_, ro_, tu_, un_, co_, nI fk, nI k, wt_, wb_, li_, em_, hh_, ht_, hb_, hl_, lt_, lb_, br_, l3_, g3_, a1, a2, a3, a4, a5, a6, a7, a8, a9, a10, a11, a12, a13, a14, a15, a16, a17, a18, a19) (nI c) (nI d) (nI row) := by
  unfold wpX_losesLess
  refine am_cellx row c rfl rfl (by omega) (by omega) (nm_e (am_cellx row d rfl rfl (by omega) (by omega) (nm_e ?_)))
  refine pk_loop (σ := Unit) (fun n w _ => wX_losesLess_21 post (nI c) (nI d) _ _ pr_ wo_ ro_ tu_ un_ co_ (nI fk) (nI k) wt_ wb_ li_ em_ hh_ ht_ hb_ hl_ lt_ lb_ br_ l3_ g3_ a1 a2 a3 a4 a5 a6 a7 a8 a9 a10 a11 a12 a13 a14 a15 a16 a17 a18 a19 n (nI w)) (fun _ _ => True) k 0 () (by omega) trivial ?_ ?_
  · intro n _ _
    refine pk_le k k (fun _ => ⟨pk_in c 4 (by omega), pk_in d 4 (by omega), br_c (fun _ => h0) (fun _ => h1)⟩) (fun z => absurd z (by omega))
  · intro n w _ hw _ hn
    refine pk_le k w (fun z => absurd z (by omega)) (fun _ => ?_)
    refine am_cellx (fk + w) c (nI_add fk w) rfl (by omega) (by omega) (nm_e (am_cellx (fk + w) d (nI_add fk w) rfl (by omega) (by omega) (nm_e ?_)))
    exact br_c (fun _ => nm_r (nI_1 w) (hn () trivial)) (fun _ => br_c (fun _ => h0) (fun _ => h1))
end
end
section
section
variable {pr_ wo_ ro_ tu_ co_ fw_ wc_ li_ em_ hh_ hl_ br_ l3_ g3_ : Int32} {un_ wt_ wb_ ht_ hb_ lt_ lb_ : Int64} {a1 a2 a3 a4 a5 a6 a7 a8 a9 a11 a12 a18 a19 : Nat → Int32} {a10 a13 a14 a15 a16 a17 : Nat → Int64}
/-- climbing: an invariant over rounds -/
theorem am_climb {post : St2 → Prop} {rows cols fk k : Nat} (Inv : Nat → Int → (Nat → Int) → (Nat → Nat) → (Nat → Nat) → Prop) (hrows : rows ≤ 16) (hcols : cols ≤ 4) (hrk : rows ≤ fk + k) (hfk : fk + k ≤ 21)
    (hok : ∀ i u T rn cn, Inv i u T rn cn → u ≠ 0 ∧ am_B u ∧ (∀ r c, r < fk + k → (c < cols ∨ c = 4) → am_B (T (r * 5 + c))) ∧ (∀ r, r < rows → rn r < 128) ∧ (∀ c, c < cols → cn c < 128))
    (hstep : ∀ i u T rn cn q b, Inv i u T rn cn → i < 100000 → q < cols → am_hp T fk k q → (∀ c, c < cols → am_hp T fk k c → cn q ≤ cn c) → b < rows → 0 < T (b * 5 + q) → (∀ r, r < rows → 0 < T (r * 5 + q) → am_lq T rn q b r) → Inv (i + 1) (am_ab (T (b * 5 + q))) (am_ex T b q u cols (fk + k)) (am_up rn b (cn q)) (am_up cn q (rn b)))
    (hexit : ∀ i u T rn cn, Inv i u T rn cn → (i = 100000 ∨ (∀ c, c < cols → ¬ am_hp T fk k c) ∨ (∃ q, q < cols ∧ am_hp T fk k q ∧ (∀ c, c < cols → am_hp T fk k c → cn q ≤ cn c) ∧ ∀ r, r < rows → T (r * 5 + q) ≤ 0)) → post (pr_, wo_, nI rows, tu_, am_L u, nI cols, nI fk, nI k, wt_, wb_, li_, em_, hh_, ht_, hb_, hl_, lt_, lb_, br_, l3_, g3_, a1, a2, a3, a4, a5, a6, a7, a8, a9, am_lf T, am_nf rn, am_nf cn, a13, a14, a15, a16, a17, a18, a19))
    {u : Int} {T : Nat → Int} {rn cn : Nat → Nat} (h : Inv 0 u T rn cn) :
    wpX_climb post (pr_, wo_, nI rows, tu_, am_L u, nI cols, nI fk, nI k, wt_, wb_, li_, em_, hh_, ht_, hb_, hl_, lt_, lb_, br_, l3_, g3_, a1, a2, a3, a4, a5, a6, a7, a8, a9, am_lf T, am_nf rn, am_nf cn, a13, a14, a15, a16, a17, a18, a19) := by
  unfold wpX_climb
  refine pk_loop (fun n i (s : Int × (Nat → Int) × (Nat → Nat) × (Nat → Nat)) => wX_climb_2 post n (nI i) pr_ wo_ (nI rows) tu_ (am_L s.1) (nI cols) (nI fk) (nI k) wt_ wb_ li_ em_ hh_ ht_ hb_ hl_ lt_ lb_ br_ l3_ g3_ a1 a2 a3 a4 a5 a6 a7 a8 a9 (am_lf s.2.1) (am_nf s.2.2.1) (am_nf s.2.2.2) a13 a14 a15 a16 a17 a18 a19) (fun i s => Inv i s.1 s.2.1 s.2.2.1 s.2.2.2) 100000 0 (u, T, rn, cn) (by omega) h ?_ ?_
  · rintro n ⟨u, T, rn, cn⟩ hI
    exact pk_le 100000 100000 (fun _ => hexit 100000 u T rn cn hI (Or.inl rfl)) (fun z => absurd z (by omega))
  · rintro n i ⟨u, T, rn, cn⟩ hi hI hn
    replace hI : Inv i u T rn cn := hI
    obtain ⟨hu0, hu, hT, hrn, hcn⟩ := hok i u T rn cn hI
    refine pk_le 100000 i (fun z => absurd z (by omega)) (fun _ => ?_)
    refine am_entering (fun c w hc hw => hT (fk + w) c (by omega) (Or.inl hc)) hfk hcols hcn (fun g => ?_) (fun q hq hp hm => ?_)
    · refine br_f (by decide) ?_
      unfold wX_climb_26
      exact br_f (by decide) (hexit i u T rn cn hI (Or.inr (Or.inl g)))
    · refine br_t (nI_pos' (by omega)) ?_
      refine am_leaving (fun r c hr hc => hT r c (by omega) (by rcases hc with e | e <;> omega)) hrows (by omega) hrn (fun g => ?_) (fun b hb hpos hl => ?_)
      · unfold wX_climb_26
        exact br_f (by decide) (hexit i u T rn cn hI (Or.inr (Or.inr ⟨q, hq, hp, hm, g⟩)))
      · unfold wX_climb_26
        refine br_t (nI_pos' (by omega)) ?_
        exact am_exchange hT hu hu0 (by omega) (by omega) hq hfk hcols (hrn b hb) (hcn q hq) (nI_add fk k) (nm_r (nI_1 i) (hn (am_ab (T (b * 5 + q)), am_ex T b q u cols (fk + k), am_up rn b (cn q), am_up cn q (rn b)) (hstep i u T rn cn q b hI hi hq hp hm hb hpos hl)))
/-! dropping the additional variable -/
theorem am_dropCol {post : Int32 → St2 → Prop} {rows c0 : Nat} {rn cn : Nat → Nat} (hrows : rows ≤ 16) (hrn : ∀ r, r < rows → rn r < 99) (hcn : ∀ c, c < 4 → cn c < 128) (hc0 : c0 < 3) (hc : cn c0 = 99) (hl : ∀ c, c < c0 → cn c ≠ 99)
    (h : post (nI c0) (pr_, wo_, nI rows, tu_, un_, nI 4, fw_, wc_, wt_, wb_, li_, em_, hh_, ht_, hb_, hl_, lt_, lb_, br_, l3_, g3_, a1, a2, a3, a4, a5, a6, a7, a8, a9, a10, am_nf rn, am_nf cn, a13, a14, a15, a16, a17, a18, a19)) : wpX_dropExtra post (pr_, wo_, nI rows, tu_, un_, nI 4, fw_, wc_, wt_, wb_, li_, em_, hh_, ht_, hb_, hl_, lt_, lb_, br_, l3_, g3_, a1, a2, a3, a4, a5, a6, a7, a8, a9, a10, am_nf rn, am_nf cn, a13, a14, a15, a16, a17, a18, a19) := by
  unfold wpX_dropExtra
  refine pk_loop (σ := Unit) (fun n r _ => wX_dropExtra_2 post pr_ wo_ (nI rows) tu_ un_ (nI 4) fw_ wc_ wt_ wb_ li_ em_ hh_ ht_ hb_ hl_ lt_ lb_ br_ l3_ g3_ a1 a2 a3 a4 a5 a6 a7 a8 a9 a10 (am_nf rn) (am_nf cn) a13 a14 a15 a16 a17 a18 a19 n (nI r)) (fun _ _ => True) rows 0 () (by omega) trivial ?_ ?_
  · intro n _ _
    refine pk_le rows rows (fun _ => ?_) (fun z => absurd z (by omega))
    refine pk_loop (σ := Unit) (fun n c _ => wX_dropExtra_66 post pr_ wo_ (nI rows) tu_ un_ (nI 4) fw_ wc_ wt_ wb_ li_ em_ hh_ ht_ hb_ hl_ lt_ lb_ br_ l3_ g3_ a1 a2 a3 a4 a5 a6 a7 a8 a9 a10 (am_nf rn) (am_nf cn) a13 a14 a15 a16 a17 a18 a19 n (nI c)) (fun _ _ => True) c0 0 () (by omega) trivial ?_ ?_
    · intro n _ _
      refine pk_le 3 c0 (fun z => absurd z (by omega)) (fun _ => ⟨pk_in c0 4 (by omega), br_t ?_ h⟩)
      rw [nI_clamp (by omega)]
      show nI (cn c0) = 99
      rw [hc]; rfl
    · intro n c _ hcc _ hn
      refine pk_le 3 c (fun z => absurd z (by omega)) (fun _ => ⟨pk_in c 4 (by omega), br_f ?_ (nm_r (nI_1 c) (hn () trivial))⟩)
      rw [nI_clamp (by omega)]
      show ¬ nI (cn c) = 99
      intro z
      have := hcn c (by omega)
      exact hl c hcc ((nI_eq (by omega) (by omega)).mp (show nI (cn c) = nI 99 from z))
  · intro n r _ hr _ hn
    refine pk_le rows r (fun z => absurd z (by omega)) (fun _ => ⟨pk_in r 16 (by omega), br_f ?_ (nm_r (nI_1 r) (hn () trivial))⟩)
    rw [nI_clamp (by omega)]
    show ¬ nI (rn r) = 99
    intro z
    have := hrn r hr
    have := (nI_eq (by omega) (by omega)).mp (show nI (rn r) = nI 99 from z)
    omega
theorem am_dropRow {post : Int32 → St2 → Prop} {rows fk k r0 c0 : Nat} {u : Int} {T : Nat → Int} {rn cn : Nat → Nat} (hrows : rows ≤ 16) (hrk : rows ≤ fk + k) (hfk : fk + k ≤ 21) (hu0 : u ≠ 0) (hu : am_B u) (hT : ∀ r c, r < fk + k → (c < 4 ∨ c = 4) → am_B (T (r * 5 + c)))
    (hrn : ∀ r, r < rows → rn r < 128) (hcn : ∀ c, c < 4 → cn c < 128) (hr0 : r0 < rows) (hr : rn r0 = 99) (hrl : ∀ r, r < r0 → rn r ≠ 99)
    (hc0 : c0 < 4) (hcl : ∀ c, c < c0 → T (r0 * 5 + c) = 0) (hc : c0 < 3 → T (r0 * 5 + c0) ≠ 0)
    (h : post (nI c0) (pr_, wo_, nI rows, tu_, am_L (am_ab (T (r0 * 5 + c0))), nI 4, nI fk, nI k, wt_, wb_, li_, em_, hh_, ht_, hb_, hl_, lt_, lb_, br_, l3_, g3_, a1, a2, a3, a4, a5, a6, a7, a8, a9, am_lf (am_ex T r0 c0 u 4 (fk + k)), am_nf (am_up rn r0 (cn c0)), am_nf (am_up cn c0 (rn r0)), a13, a14, a15, a16, a17, a18, a19)) :
    wpX_dropExtra post (pr_, wo_, nI rows, tu_, am_L u, nI 4, nI fk, nI k, wt_, wb_, li_, em_, hh_, ht_, hb_, hl_, lt_, lb_, br_, l3_, g3_, a1, a2, a3, a4, a5, a6, a7, a8, a9, am_lf T, am_nf rn, am_nf cn, a13, a14, a15, a16, a17, a18, a19) := by
  unfold wpX_dropExtra
  have fin : wX_dropExtra_50 post (nI r0) (nI c0) pr_ wo_ (nI rows) tu_ (am_L u) (nI 4) (nI fk) (nI k) wt_ wb_ li_ em_ hh_ ht_ hb_ hl_ lt_ lb_ br_ l3_ g3_ a1 a2 a3 a4 a5 a6 a7 a8 a9 (am_lf T) (am_nf rn) (am_nf cn) a13 a14 a15 a16 a17 a18 a19 := by
    unfold wX_dropExtra_50
    exact am_exchange hT hu hu0 (by omega) (by omega) hc0 hfk (by omega) (hrn r0 hr0) (hcn c0 hc0) (nI_add fk k) h
  refine pk_loop (σ := Unit) (fun n r _ => wX_dropExtra_2 post pr_ wo_ (nI rows) tu_ (am_L u) (nI 4) (nI fk) (nI k) wt_ wb_ li_ em_ hh_ ht_ hb_ hl_ lt_ lb_ br_ l3_ g3_ a1 a2 a3 a4 a5 a6 a7 a8 a9 (am_lf T) (am_nf rn) (am_nf cn) a13 a14 a15 a16 a17 a18 a19 n (nI r)) (fun _ _ => True) r0 0 () (by omega) trivial ?_ ?_
  · intro n _ _
    refine pk_le rows r0 (fun z => absurd z (by omega)) (fun _ => ⟨pk_in r0 16 (by omega), br_t ?_ ?_⟩)
    · rw [nI_clamp (by omega)]
      show nI (rn r0) = 99
      rw [hr]; rfl
    · refine pk_loop (σ := Unit) (fun n c _ => wX_dropExtra_23 post (nI r0) pr_ wo_ (nI rows) tu_ (am_L u) (nI 4) (nI fk) (nI k) wt_ wb_ li_ em_ hh_ ht_ hb_ hl_ lt_ lb_ br_ l3_ g3_ a1 a2 a3 a4 a5 a6 a7 a8 a9 (am_lf T) (am_nf rn) (am_nf cn) a13 a14 a15 a16 a17 a18 a19 n (nI c)) (fun _ _ => True) c0 0 () (by omega) trivial ?_ ?_
      · intro n _ _
        refine pk_le 3 c0 (fun _ => fin) (fun z => am_cellx r0 c0 rfl rfl (by omega) (by omega) ?_)
        exact am_eq (T (r0 * 5 + c0)) 0 (am_BW (hT r0 c0 (by omega) (Or.inl hc0))) am_W0 (fun z2 => absurd z2 (hc z)) (fun _ => fin)
      · intro n c _ hcc _ hn
        refine pk_le 3 c (fun z => absurd z (by omega)) (fun _ => am_cellx r0 c rfl rfl (by omega) (by omega) ?_)
        exact am_eq (T (r0 * 5 + c)) 0 (am_BW (hT r0 c (by omega) (Or.inl (by omega)))) am_W0 (fun _ => nm_r (nI_1 c) (hn () trivial)) (fun z2 => absurd (hcl c hcc) z2)
  · intro n r _ hrr _ hn
    refine pk_le rows r (fun z => absurd z (by omega)) (fun _ => ⟨pk_in r 16 (by omega), br_f ?_ (nm_r (nI_1 r) (hn () trivial))⟩)
    rw [nI_clamp (by omega)]
    show ¬ nI (rn r) = 99
    intro z
    have := hrn r (by omega)
    exact hrl r hrr ((nI_eq (by omega) (by omega)).mp (show nI (rn r) = nI 99 from z))
/-! closing a column -/
def am_cl (T : Nat → Int) (col e : Nat) : Nat → Int := fun j => if j / 5 < e then (if j % 5 = col then T (j / 5 * 5 + 3) else if j % 5 = 3 then 0 else T j) else T j
theorem am_cl0 (T : Nat → Int) (col : Nat) : am_cl T col 0 = T := by
  funext j; unfold am_cl; simp only [if_neg (Nat.not_lt_zero _)]
theorem am_clS (T : Nat → Int) (col e : Nat) (hc : col < 3) : am_up (am_up (am_cl T col e) (e * 5 + col) (am_cl T col e (e * 5 + 3))) (e * 5 + 3) 0 = am_cl T col (e + 1) := by
  funext j; unfold am_up am_cl
  rw [if_neg (show ¬ (e * 5 + 3) / 5 < e by omega)]
  by_cases h3 : j = e * 5 + 3
  · rw [if_pos h3, if_pos (show j / 5 < e + 1 by omega), if_neg (show ¬ j % 5 = col by omega), if_pos (show j % 5 = 3 by omega)]
  · rw [if_neg h3]
    by_cases hk : j = e * 5 + col
    · rw [if_pos hk, if_pos (show j / 5 < e + 1 by omega), if_pos (show j % 5 = col by omega), show j / 5 = e by omega]
    · rw [if_neg hk]
      by_cases h : j / 5 < e
      · rw [if_pos h, if_pos (show j / 5 < e + 1 by omega)]
      · rw [if_neg h]
        by_cases h2 : j / 5 < e + 1
        · rw [if_pos h2, if_neg (show ¬ j % 5 = col by omega), if_neg (show ¬ j % 5 = 3 by omega)]
        · rw [if_neg h2]
theorem am_closeColumn {post : St2 → Prop} {rows col : Nat} {T : Nat → Int} {cn : Nat → Nat} (hrows : rows ≤ 16) (hcol : col < 3) (hcn : cn 3 < 128)
    (h : post (pr_, wo_, nI rows, tu_, un_, 3, fw_, wc_, wt_, wb_, li_, em_, hh_, ht_, hb_, hl_, lt_, lb_, br_, l3_, g3_, a1, a2, a3, a4, a5, a6, a7, a8, a9, am_lf (am_cl T col (rows + 4)), a11, am_nf (am_up cn col (cn 3)), a13, a14, a15, a16, a17, a18, a19)) :
    wpX_closeColumn post (pr_, wo_, nI rows, tu_, un_, co_, fw_, wc_, wt_, wb_, li_, em_, hh_, ht_, hb_, hl_, lt_, lb_, br_, l3_, g3_, a1, a2, a3, a4, a5, a6, a7, a8, a9, am_lf T, a11, am_nf cn, a13, a14, a15, a16, a17, a18, a19) (nI col) := by
  unfold wpX_closeColumn
  rw [show am_lf T = am_lf (am_cl T col 0) from by rw [am_cl0]]
  refine pk_loop (σ := Unit) (fun n r _ => wX_closeColumn_2 post (nI col) pr_ wo_ (nI rows) tu_ un_ co_ fw_ wc_ wt_ wb_ li_ em_ hh_ ht_ hb_ hl_ lt_ lb_ br_ l3_ g3_ n (nI r) a1 a2 a3 a4 a5 a6 a7 a8 a9 (am_lf (am_cl T col r)) a11 (am_nf cn) a13 a14 a15 a16 a17 a18 a19) (fun _ _ => True) (rows + 4) 0 () (by omega) trivial ?_ ?_
  · intro n _ _
    refine pk_le (rows + 4) (rows + 4) (fun _ => ⟨pk_in col 4 (by omega), nm_r ?_ h⟩) (fun z => absurd z (by omega)) (nI_add rows 4)
    rw [nI_clamp (by omega)]
    show upd (am_nf cn) col (vp_nar .byte (nI (cn 3))) = _
    rw [am_nnb hcn, am_uN]
  · intro n r _ hr _ hn
    refine pk_le (rows + 4) r (fun z => absurd z (by omega)) (fun _ => ?_) (nI_add rows 4)
    refine am_cellx r 3 rfl rfl (by omega) (by omega) ⟨pk_in (r * 5 + col) 105 (by omega) (am_ix5 r col), nm_e ⟨pk_in (r * 5 + 3) 105 (by omega) (am_ix5 r 3), nm_r ?_ (nm_r (nI_1 r) (hn () trivial))⟩⟩
    rw [pk_cl (r * 5 + col) (am_ix5 r col), am_k3 (r := r) (by omega)]
    show vp_updL (vp_updL (am_lf (am_cl T col r)) (r * 5 + col) (am_L (am_cl T col r (r * 5 + 3)))) (r * 5 + 3) (am_L 0) = _
    rw [am_uL, am_uL, am_clS T col r hcol]
end
end
section
/-! the forms: amounts 0..2, conditions 3.., bounds of amounts 3 + m + i, the additional variable; coordinates 0..2 amounts, 3 the additional one, 4 the constant -/
def am_F (m : Nat) (g : Nat → Int) (b : Int) : Nat → Nat → Int := fun v j =>
  if v < 3 then (if j = v then 1 else 0)
  else if v < 3 + m then (if j < 3 then (if v = 3 then -(g j) else g j) else if j = 3 then 1 else (if v = 3 then b else -b))
  else if v < 6 + m then (if j < 3 then (if j = v - (3 + m) then -1 else 0) else if j = 3 then 1 else 20)
  else (if j = 3 then 1 else 0)
def am_G (o : Nat → Int) : Nat → Nat → Int := fun w j => if w = 0 then (if j < 3 then o j else 0) else if w < 4 then (if j + 1 = w then -1 else 0) else (if j = 3 then -1 else 0)
def am_d3 (g w : Nat → Int) : Int := g 0 * w 0 + g 1 * w 1 + g 2 * w 2
theorem am_Fx (m : Nat) (g : Nat → Int) (b : Int) (w : Nat → Int) : ∀ i, i < 3 → am_dot (am_F m g b i) w = w i ∧ am_F m g b i 4 = 0 := by
  refine am_3 ?_ ?_ ?_ <;> simp [am_F, am_dot]
theorem am_Ft {m : Nat} (hm : 1 ≤ m) (g : Nat → Int) (b : Int) (w : Nat → Int) : am_dot (am_F m g b 3) w = w 3 - am_d3 g w ∧ am_F m g b 3 4 = b := by
  have h : (3 : Nat) < 3 + m := by omega
  simp [am_F, am_dot, am_d3, h]
  grind
theorem am_Fu (g : Nat → Int) (b : Int) (w : Nat → Int) : am_dot (am_F 2 g b 4) w = w 3 + am_d3 g w ∧ am_F 2 g b 4 4 = -b := by
  simp [am_F, am_dot, am_d3]
  grind
theorem am_Fs (m : Nat) (g : Nat → Int) (b : Int) (w : Nat → Int) : ∀ i, i < 3 → am_dot (am_F m g b (3 + m + i)) w = w 3 - w i ∧ am_F m g b (3 + m + i) 4 = 20 := by
  intro i hi
  have h1 : ¬ 3 + m + i < 3 := by omega
  have h2 : ¬ 3 + m + i < 3 + m := by omega
  have h3 : 3 + m + i < 6 + m := by omega
  have h4 : 3 + m + i - (3 + m) = i := by omega
  have e : am_F m g b (3 + m + i) = fun j => if j < 3 then (if j = i then -1 else 0) else if j = 3 then 1 else 20 := by
    funext j
    unfold am_F
    rw [if_neg h1, if_neg h2, if_pos h3, h4]
  rw [e]
  have : i = 0 ∨ i = 1 ∨ i = 2 := by omega
  rcases this with e | e | e <;> subst e <;> simp [am_dot] <;> grind
theorem am_Fe {m v : Nat} (hv : 6 + m ≤ v) (g : Nat → Int) (b : Int) (w : Nat → Int) : am_dot (am_F m g b v) w = w 3 ∧ am_F m g b v 4 = 0 := by
  have h1 : ¬ v < 3 := by omega
  have h2 : ¬ v < 3 + m := by omega
  have h3 : ¬ v < 6 + m := by omega
  have e : am_F m g b v = fun j => if j = 3 then 1 else 0 := by
    funext j
    unfold am_F
    rw [if_neg h1, if_neg h2, if_neg h3]
  rw [e]
  simp [am_dot]
theorem am_G0 (o w : Nat → Int) : am_dot (am_G o 0) w = am_d3 o w ∧ am_G o 0 4 = 0 := by
  simp [am_G, am_dot, am_d3]
theorem am_Gi (o w : Nat → Int) : ∀ i, i < 3 → am_dot (am_G o (i + 1)) w = -(w i) ∧ am_G o (i + 1) 4 = 0 := by
  refine am_3 ?_ ?_ ?_ <;> simp [am_G, am_dot]
theorem am_G4 (o w : Nat → Int) : am_dot (am_G o 4) w = -(w 3) ∧ am_G o 4 4 = 0 := by
  simp [am_G, am_dot]
/-- small numbers -/
def am_s7 (g : Nat → Int) : Prop := ∀ j, j < 3 → (g j).natAbs ≤ 7
theorem am_Fsm {m : Nat} {g : Nat → Int} {b : Int} (hg : am_s7 g) (hb : b.natAbs ≤ 600) : ∀ v, am_sm (am_F m g b v) := by
  intro v
  unfold am_F
  refine ⟨fun j hj => ?_, ?_⟩
  · have := hg j hj
    dsimp only
    repeat' split
    all_goals omega
  · dsimp only
    repeat' split
    all_goals omega
theorem am_Gsm {o : Nat → Int} (ho : am_s7 o) : ∀ w, am_sm (am_G o w) := by
  intro v
  unfold am_G
  refine ⟨fun j hj => ?_, ?_⟩
  · have := ho j hj
    dsimp only
    repeat' split
    all_goals omega
  · dsimp only
    repeat' split
    all_goals omega
/-! names: every one is a row's or a column's -/
def am_N (m : Nat) (rn cn : Nat → Nat) : Prop := (∀ r, r < m + 3 → rn r < 6 + m) ∧ (∀ c, c < 3 → cn c < 6 + m) ∧ ∀ v, v < 6 + m → (∃ r, r < m + 3 ∧ rn r = v) ∨ (∃ c, c < 3 ∧ cn c = v)
theorem am_Nx {m : Nat} {rn cn : Nat → Nat} (h : am_N m rn cn) {b q : Nat} (hb : b < m + 3) (hq : q < 3) : am_N m (am_up rn b (cn q)) (am_up cn q (rn b)) := by
  obtain ⟨h1, h2, h3⟩ := h
  refine ⟨fun r hr => ?_, fun c hc => ?_, fun v hv => ?_⟩
  · by_cases e : r = b
    · rw [e, am_ups]; exact h2 q hq
    · rw [am_upn _ _ e]; exact h1 r hr
  · by_cases e : c = q
    · rw [e, am_ups]; exact h1 b hb
    · rw [am_upn _ _ e]; exact h2 c hc
  · rcases h3 v hv with ⟨r, hr, e⟩ | ⟨c, hc, e⟩
    · by_cases er : r = b
      · exact Or.inr ⟨q, hq, by rw [am_ups, ← er]; exact e⟩
      · exact Or.inl ⟨r, hr, by rw [am_upn _ _ er]; exact e⟩
    · by_cases ec : c = q
      · exact Or.inl ⟨b, hb, by rw [am_ups, ← ec]; exact e⟩
      · exact Or.inr ⟨c, hc, by rw [am_upn _ _ ec]; exact e⟩
/-- the point is one: all names are at least 0 -/
def am_fe (F : Nat → Nat → Int) (m : Nat) (u : Int) (X : Nat → Int) : Prop := ∀ v, v < 6 + m → 0 ≤ am_dot (F v) X + u * F v 4
theorem am_nn {u a : Int} (hu : 0 < u) (h : 0 ≤ u * a) : 0 ≤ a := by
  rcases Int.lt_or_le a 0 with g | g
  · have := Int.mul_neg_of_pos_of_neg hu g
    omega
  · exact g
theorem am_fex {F G : Nat → Nat → Int} {m wr : Nat} {u : Int} {T : Nat → Int} {rn cn : Nat → Nat} {X : Nat → Int} {d : Nat → Nat → Int} (h : am_pic F G (m + 3) wr 3 u T rn cn X d) (hu : 0 < u) (hN : am_N m rn cn) (hf : am_fe F m u X)
    {b q : Nat} (hb : b < m + 3) (hq : q < 3) (hp : 0 < T (b * 5 + q)) (hl : ∀ r, r < m + 3 → 0 < T (r * 5 + q) → am_lq T rn q b r) {X' : Nat → Int}
    (hX : ∀ j, j < 4 → u * X' j = 1 * (T (b * 5 + q) * X j + T (b * 5 + 4) * d q j)) : am_fe F m (T (b * 5 + q)) X' := by
  obtain ⟨hF, hG, hJ, hK⟩ := h
  obtain ⟨n1, n2, n3⟩ := hN
  have hR : 0 ≤ T (b * 5 + 4) := by
    have := (hF b hb).2
    have := hf (rn b) (n1 b hb)
    omega
  intro v hv
  have L := am_dot_lin (F v) X' X (d q) u 1 _ _ hX
  refine am_nn hu ?_
  have e : u * (am_dot (F v) X' + T (b * 5 + q) * F v 4) = T (b * 5 + q) * (am_dot (F v) X + u * F v 4) + T (b * 5 + 4) * am_dot (F v) (d q) := by
    have : u * (am_dot (F v) X' + T (b * 5 + q) * F v 4) = u * am_dot (F v) X' + u * (T (b * 5 + q) * F v 4) := by grind
    rw [this, L]; grind
  rw [e]
  rcases n3 v hv with ⟨r, hr, er⟩ | ⟨c, hc, ec⟩
  · obtain ⟨r1, r2⟩ := hF r hr
    rw [er] at r1 r2
    have rq := r1 q hq
    have e1 : am_dot (F v) X + u * F v 4 = T (r * 5 + 4) := by omega
    have e2 : am_dot (F v) (d q) = -T (r * 5 + q) := by omega
    have hRr : 0 ≤ T (r * 5 + 4) := by have := hf v hv; omega
    rw [e1, e2]
    rcases Int.lt_or_le 0 (T (r * 5 + q)) with g | g
    · have hh := hl r hr g
      unfold am_lq at hh
      have a1 : T (b * 5 + q) * T (r * 5 + 4) = T (r * 5 + 4) * T (b * 5 + q) := Int.mul_comm _ _
      have a2 : T (b * 5 + 4) * -T (r * 5 + q) = -(T (b * 5 + 4) * T (r * 5 + q)) := by grind
      omega
    · have a1 : 0 ≤ T (b * 5 + q) * T (r * 5 + 4) := Int.mul_nonneg (by omega) hRr
      have a2 : 0 ≤ T (b * 5 + 4) * -T (r * 5 + q) := Int.mul_nonneg hR (by omega)
      omega
  · have k := hK c hc
    have j := hJ c q hc hq
    rw [ec] at k j
    rw [k, j]
    split
    · have : 0 ≤ T (b * 5 + 4) * u := Int.mul_nonneg hR (by omega)
      omega
    · omega
end
section
/-! the second climb: what its states look like -/
def am_wt (v : Nat) : Nat := if v < 3 then 2 + v else if v = 3 then 1 else 0
def am_mu (cn : Nat → Nat) : Nat := am_wt (cn 0) + am_wt (cn 1) + am_wt (cn 2)
theorem am_wt_le (v : Nat) : am_wt v ≤ 4 := by unfold am_wt; split <;> (try split) <;> omega
theorem am_mu_le (cn : Nat → Nat) : am_mu cn ≤ 12 := by
  have h0 := am_wt_le (cn 0)
  have h1 := am_wt_le (cn 1)
  have h2 := am_wt_le (cn 2)
  unfold am_mu; omega
theorem am_mu_lt {cn : Nat → Nat} {q v : Nat} (hq : q < 3) (h : am_wt v < am_wt (cn q)) : am_mu (am_up cn q v) < am_mu cn := by
  have : q = 0 ∨ q = 1 ∨ q = 2 := by omega
  rcases this with e | e | e <;> subst e <;> simp [am_mu, am_up] <;> omega
def am_tA (m : Nat) (o : Nat → Int) (cn : Nat → Nat) : Prop := (∀ c, c < 3 → ∃ i, i < 3 ∧ (cn c = i ∨ (cn c = 3 + m + i ∧ 0 < o i))) ∧ (∀ i, i < 3 → ∃ c, c < 3 ∧ (cn c = i ∨ cn c = 3 + m + i))
def am_tB (o : Nat → Int) (cn : Nat → Nat) : Prop := ∃ k, k < 3 ∧ 0 < o k ∧ (∀ c, c < 3 → cn c = 3 ∨ ∃ i, i < 3 ∧ i ≠ k ∧ (cn c = i ∨ (cn c = 4 + i ∧ 0 < o i))) ∧ (∃ c, c < 3 ∧ cn c = 3) ∧ (∀ i, i < 3 → i ≠ k → ∃ c, c < 3 ∧ (cn c = i ∨ cn c = 4 + i))
theorem am_vcase {m v : Nat} (hv : v < 6 + m) (hm : m ≤ 2) : v < 3 ∨ (1 ≤ m ∧ v = 3) ∨ (m = 2 ∧ v = 4) ∨ ∃ i, i < 3 ∧ v = 3 + m + i := by
  by_cases h : v < 3 + m
  · omega
  · exact Or.inr (Or.inr (Or.inr ⟨v - (3 + m), by omega, by omega⟩))
theorem am_d3e {o w : Nat → Int} {j : Nat} {x : Int} (hj : j < 3) (h : ∀ i, i < 3 → w i = if i = j then x else 0) : am_d3 o w = o j * x := by
  unfold am_d3
  rw [h 0 (by omega), h 1 (by omega), h 2 (by omega)]
  have : j = 0 ∨ j = 1 ∨ j = 2 := by omega
  rcases this with e | e | e <;> subst e <;> simp
theorem am_d3jk {o w : Nat → Int} {j k : Nat} (hj : j < 3) (hk : k < 3) (hjk : j ≠ k) (h : ∀ i, i < 3 → i ≠ j → i ≠ k → w i = 0) : am_d3 o w = o j * w j + o k * w k := by
  unfold am_d3
  have hj' : j = 0 ∨ j = 1 ∨ j = 2 := by omega
  have hk' : k = 0 ∨ k = 1 ∨ k = 2 := by omega
  rcases hj' with e | e | e <;> rcases hk' with e' | e' | e' <;> subst e <;> subst e' <;> first | exact absurd rfl hjk | skip
  · rw [h 2 (by omega) (by omega) (by omega)]; grind
  · rw [h 1 (by omega) (by omega) (by omega)]; grind
  · rw [h 2 (by omega) (by omega) (by omega)]; grind
  · rw [h 0 (by omega) (by omega) (by omega)]; grind
  · rw [h 1 (by omega) (by omega) (by omega)]; grind
  · rw [h 0 (by omega) (by omega) (by omega)]; grind
theorem am_d3k {o w : Nat → Int} {k : Nat} (hk : k < 3) (h : ∀ i, i < 3 → i ≠ k → w i = 0) : am_d3 o w = o k * w k := by
  unfold am_d3
  have hk' : k = 0 ∨ k = 1 ∨ k = 2 := by omega
  rcases hk' with e' | e' | e' <;> subst e'
  · rw [h 1 (by omega) (by omega), h 2 (by omega) (by omega)]; grind
  · rw [h 0 (by omega) (by omega), h 2 (by omega) (by omega)]; grind
  · rw [h 0 (by omega) (by omega), h 1 (by omega) (by omega)]; grind
theorem am_d3n {g o w : Nat → Int} (h : ∀ j, j < 3 → g j = -(o j)) : am_d3 g w = -(am_d3 o w) := by
  unfold am_d3
  rw [h 0 (by omega), h 1 (by omega), h 2 (by omega)]; grind
theorem am_d3p {g o w : Nat → Int} (h : ∀ j, j < 3 → g j = o j) : am_d3 g w = am_d3 o w := by
  unfold am_d3
  rw [h 0 (by omega), h 1 (by omega), h 2 (by omega)]
section
variable {m : Nat} {g o : Nat → Int} {b u : Int} {G : Nat → Nat → Int} {wr : Nat} {T : Nat → Int} {rn cn : Nat → Nat} {X : Nat → Int} {d : Nat → Nat → Int}
theorem am_jx (h : am_Q (am_F m g b) G (m + 3) wr u T rn cn X d) {c q i : Nat} (hc : c < 3) (hq : q < 3) (hi : i < 3) (e : cn c = i) : d q i = if c = q then u else 0 := by
  have := h.1.2.2.1 c q hc hq
  rw [e, (am_Fx m g b (d q) i hi).1] at this
  exact this
theorem am_js (h : am_Q (am_F m g b) G (m + 3) wr u T rn cn X d) {c q i : Nat} (hc : c < 3) (hq : q < 3) (hi : i < 3) (e : cn c = 3 + m + i) : d q i = -(if c = q then u else 0) := by
  have := h.1.2.2.1 c q hc hq
  rw [e, (am_Fs m g b (d q) i hi).1, h.2.2.1 q hq] at this
  omega
theorem am_jt (h : am_Q (am_F m g b) G (m + 3) wr u T rn cn X d) (hm : 1 ≤ m) {c q : Nat} (hc : c < 3) (hq : q < 3) (e : cn c = 3) : am_d3 g (d q) = -(if c = q then u else 0) := by
  have := h.1.2.2.1 c q hc hq
  rw [e, (am_Ft hm g b (d q)).1, h.2.2.1 q hq] at this
  omega
theorem am_kx (h : am_Q (am_F m g b) G (m + 3) wr u T rn cn X d) {c i : Nat} (hc : c < 3) (hi : i < 3) (e : cn c = i) : X i = 0 := by
  have := h.1.2.2.2 c hc
  rw [e, (am_Fx m g b X i hi).1, (am_Fx m g b X i hi).2] at this
  omega
theorem am_ks (h : am_Q (am_F m g b) G (m + 3) wr u T rn cn X d) {c i : Nat} (hc : c < 3) (hi : i < 3) (e : cn c = 3 + m + i) : X i = 20 * u := by
  have := h.1.2.2.2 c hc
  rw [e, (am_Fs m g b X i hi).1, (am_Fs m g b X i hi).2, h.2.1] at this
  omega
theorem am_kt (h : am_Q (am_F m g b) G (m + 3) wr u T rn cn X d) (hm : 1 ≤ m) {c : Nat} (hc : c < 3) (e : cn c = 3) : am_d3 g X = u * b := by
  have := h.1.2.2.2 c hc
  rw [e, (am_Ft hm g b X).1, (am_Ft hm g b X).2, h.2.1] at this
  omega
/-- a row's cell, by its name -/
theorem am_cx (h : am_Q (am_F m g b) G (m + 3) wr u T rn cn X d) {r q : Nat} (hr : r < m + 3) (hq : q < 3) (hv : rn r < 3) : T (r * 5 + q) = -(d q (rn r)) := by
  have := (h.1.1 r hr).1 q hq
  rw [(am_Fx m g b (d q) (rn r) hv).1] at this
  exact this
theorem am_ct (h : am_Q (am_F m g b) G (m + 3) wr u T rn cn X d) (hm : 1 ≤ m) {r q : Nat} (hr : r < m + 3) (hq : q < 3) (hv : rn r = 3) : T (r * 5 + q) = am_d3 g (d q) := by
  have := (h.1.1 r hr).1 q hq
  rw [hv, (am_Ft hm g b (d q)).1, h.2.2.1 q hq] at this
  omega
theorem am_cu (hm : m = 2) (h : am_Q (am_F m g b) G (m + 3) wr u T rn cn X d) {r q : Nat} (hr : r < m + 3) (hq : q < 3) (hv : rn r = 4) : T (r * 5 + q) = -(am_d3 g (d q)) := by
  subst hm
  have := (h.1.1 r hr).1 q hq
  rw [hv, (am_Fu g b (d q)).1, h.2.2.1 q hq] at this
  omega
theorem am_cs (h : am_Q (am_F m g b) G (m + 3) wr u T rn cn X d) {r q i : Nat} (hr : r < m + 3) (hq : q < 3) (hi : i < 3) (hv : rn r = 3 + m + i) : T (r * 5 + q) = d q i := by
  have := (h.1.1 r hr).1 q hq
  rw [hv, (am_Fs m g b (d q) i hi).1, h.2.2.1 q hq] at this
  omega
theorem am_w0 (h : am_Q (am_F m g b) (am_G o) (m + 3) 4 u T rn cn X d) {q : Nat} (hq : q < 3) : T ((m + 3 + 0) * 5 + q) = -(am_d3 o (d q)) := by
  have := (h.1.2.1 0 (by omega)).1 q hq
  rw [(am_G0 o (d q)).1] at this
  exact this
theorem am_w1 (h : am_Q (am_F m g b) (am_G o) (m + 3) 4 u T rn cn X d) {q i : Nat} (hq : q < 3) (hi : i < 3) : T ((m + 3 + (i + 1)) * 5 + q) = d q i := by
  have := (h.1.2.1 (i + 1) (by omega)).1 q hq
  rw [(am_Gi o (d q) i hi).1] at this
  omega
theorem am_wX (h : am_Q (am_F m g b) (am_G o) (m + 3) 4 u T rn cn X d) : T ((m + 3) * 5 + 4) = am_d3 o X := by
  have := (h.1.2.1 0 (by omega)).2
  rw [(am_G0 o X).1, (am_G0 o X).2] at this
  have e : (m + 3 + 0) * 5 + 4 = (m + 3) * 5 + 4 := by omega
  rw [e] at this
  omega
/-- what helping says about a column's direction -/
theorem am_hpd (h : am_Q (am_F m g b) (am_G o) (m + 3) 4 u T rn cn X d) {q : Nat} (hq : q < 3) (hp : am_hp T (m + 3) 4 q) : 0 < am_d3 o (d q) ∨ (am_d3 o (d q) = 0 ∧ ∃ i, i < 3 ∧ d q i < 0 ∧ ∀ i', i' < i → d q i' = 0) := by
  obtain ⟨w, hw, hl, hz⟩ := hp
  have w0 := am_w0 h hq
  rcases Nat.eq_zero_or_pos w with e | e
  · subst e
    left; omega
  · right
    have z0 := hz 0 e
    refine ⟨by omega, w - 1, by omega, ?_, ?_⟩
    · have := am_w1 h hq (show w - 1 < 3 by omega)
      rw [show w - 1 + 1 = w by omega] at this
      omega
    · intro i' hi'
      have := am_w1 h hq (show i' < 3 by omega)
      have z := hz (i' + 1) (by omega)
      omega
theorem am_dhp (h : am_Q (am_F m g b) (am_G o) (m + 3) 4 u T rn cn X d) {q : Nat} (hq : q < 3) (hp : 0 < am_d3 o (d q)) : am_hp T (m + 3) 4 q := by
  have w0 := am_w0 h hq
  exact ⟨0, by omega, by omega, fun w' hw' => absurd hw' (by omega)⟩
/-! columns that are one of each pair -/
theorem am_Ax (h : am_Q (am_F m g b) G (m + 3) wr u T rn cn X d) (hA : am_tA m o cn) {q j : Nat} (hq : q < 3) (hj : j < 3) (e : cn q = j) : ∀ i, i < 3 → d q i = if i = j then u else 0 := by
  intro i hi
  by_cases hij : i = j
  · rw [if_pos hij, hij, am_jx h hq hq hj e, if_pos rfl]
  · rw [if_neg hij]
    obtain ⟨c, hc, ec⟩ := hA.2 i hi
    rcases ec with ec | ec
    · rw [am_jx h hc hq hi ec, if_neg (by intro z; subst z; omega)]
    · rw [am_js h hc hq hi ec, if_neg (by intro z; subst z; omega)]; rfl
theorem am_As (h : am_Q (am_F m g b) G (m + 3) wr u T rn cn X d) (hA : am_tA m o cn) {q j : Nat} (hq : q < 3) (hj : j < 3) (e : cn q = 3 + m + j) : ∀ i, i < 3 → d q i = if i = j then -u else 0 := by
  intro i hi
  by_cases hij : i = j
  · rw [if_pos hij, hij, am_js h hq hq hj e, if_pos rfl]
  · rw [if_neg hij]
    obtain ⟨c, hc, ec⟩ := hA.2 i hi
    rcases ec with ec | ec
    · rw [am_jx h hc hq hi ec, if_neg (by intro z; subst z; omega)]
    · rw [am_js h hc hq hi ec, if_neg (by intro z; subst z; omega)]; rfl
/-- a helping column is an amount that is worth something -/
theorem am_Ah (h : am_Q (am_F m g b) (am_G o) (m + 3) 4 u T rn cn X d) (hA : am_tA m o cn) {q : Nat} (hq : q < 3) (hp : am_hp T (m + 3) 4 q) : ∃ j, j < 3 ∧ cn q = j ∧ 0 < o j := by
  have hu := h.2.2.2.1
  obtain ⟨j, hj, e⟩ := hA.1 q hq
  rcases e with e | ⟨e, ho⟩
  · refine ⟨j, hj, e, ?_⟩
    have dd := am_Ax h hA hq hj e
    have d3 := am_d3e (o := o) hj dd
    rcases am_hpd h hq hp with x | ⟨_, i, hi, hn, _⟩
    · rw [d3] at x
      rcases Int.lt_or_le 0 (o j) with y | y
      · exact y
      · have := Int.mul_nonpos_of_nonpos_of_nonneg y (show 0 ≤ u by omega)
        omega
    · rw [dd i hi] at hn
      split at hn <;> omega
  · have dd := am_As h hA hq hj e
    have d3 := am_d3e (o := o) hj dd
    have pos := Int.mul_pos ho hu
    have e2 : o j * -u = -(o j * u) := by grind
    rcases am_hpd h hq hp with x | ⟨x, _⟩ <;> rw [d3, e2] at x <;> omega
end
end
section
section
variable {m : Nat} {g o : Nat → Int} {b u : Int} {T : Nat → Int} {rn cn : Nat → Nat} {X : Nat → Int} {d : Nat → Nat → Int}
/-- one of the three ways the worth lies to the condition -/
def am_hk (m : Nat) (g o : Nat → Int) : Prop := m = 0 ∨ (1 ≤ m ∧ ∀ j, j < 3 → g j = o j) ∨ (m = 1 ∧ ∀ j, j < 3 → g j = -(o j))
def am_Ty (m : Nat) (g o : Nat → Int) (C : Prop) (i : Nat) (cn : Nat → Nat) : Prop :=
  (am_tA m o cn ∧ i + am_mu cn ≤ 12) ∨ (1 ≤ m ∧ (∀ j, j < 3 → g j = o j) ∧ ∃ c, c < 3 ∧ cn c = 3) ∨ (m = 1 ∧ (∀ j, j < 3 → g j = -(o j)) ∧ am_tB o cn ∧ i + am_mu cn ≤ 12) ∨ C
theorem am_stepA (h : am_Q (am_F m g b) (am_G o) (m + 3) 4 u T rn cn X d) (hN : am_N m rn cn) (hm : m ≤ 2) (hk : am_hk m g o) {C : Prop} {i : Nat} (hA : am_tA m o cn) (hi : i + am_mu cn ≤ 12)
    {q r : Nat} (hq : q < 3) (hp : am_hp T (m + 3) 4 q) (hr : r < m + 3) (hpos : 0 < T (r * 5 + q)) : am_Ty m g o C (i + 1) (am_up cn q (rn r)) := by
  have hu := h.2.2.2.1
  obtain ⟨j, hj, e, ho⟩ := am_Ah h hA hq hp
  have dd := am_Ax h hA hq hj e
  rcases am_vcase (hN.1 r hr) hm with v | ⟨m1, v⟩ | ⟨m2, v⟩ | ⟨i', hi', v⟩
  · rw [am_cx h hr hq v, dd _ v] at hpos
    split at hpos <;> omega
  · rw [am_ct h m1 hr hq v, am_d3e hj dd] at hpos
    rcases hk with z | ⟨_, z⟩ | ⟨_, z⟩
    · omega
    · exact Or.inr (Or.inl ⟨m1, z, q, hq, by rw [am_ups]; exact v⟩)
    · rw [z j hj] at hpos
      have := Int.mul_pos ho hu
      have e2 : -(o j) * u = -(o j * u) := by grind
      omega
  · rw [am_cu m2 h hr hq v, am_d3e hj dd] at hpos
    rcases hk with z | ⟨_, z⟩ | ⟨_, z⟩
    · omega
    · rw [z j hj] at hpos
      have := Int.mul_pos ho hu
      omega
    · omega
  · rw [am_cs h hr hq hi' v, dd i' hi'] at hpos
    have eij : i' = j := by
      split at hpos
      · assumption
      · omega
    subst eij
    refine Or.inl ⟨⟨fun c hc => ?_, fun i2 hi2 => ?_⟩, ?_⟩
    · by_cases ec : c = q
      · exact ⟨i', hj, Or.inr ⟨by rw [ec, am_ups]; exact v, ho⟩⟩
      · rw [am_upn _ _ ec]; exact hA.1 c hc
    · by_cases ei : i2 = i'
      · exact ⟨q, hq, Or.inr (by rw [am_ups, ei]; exact v)⟩
      · obtain ⟨c, hc, ec⟩ := hA.2 i2 hi2
        refine ⟨c, hc, ?_⟩
        rw [am_upn _ _ (by intro z; subst z; omega)]; exact ec
    · have := am_mu_lt (cn := cn) (v := rn r) hq (by
        rw [v, e]; unfold am_wt
        rw [if_pos hj, if_neg (by omega)]
        split <;> omega)
      omega
theorem am_stepB (h : am_Q (am_F m g b) (am_G o) (m + 3) 4 u T rn cn X d) (hN : am_N m rn cn) (hm : m = 1) (hg : ∀ j, j < 3 → g j = -(o j)) {C : Prop} {i : Nat} (hB : am_tB o cn) (hi : i + am_mu cn ≤ 12)
    {q r : Nat} (hq : q < 3) (hp : am_hp T (m + 3) 4 q) (hl : ∀ c, c < 3 → am_hp T (m + 3) 4 c → cn q ≤ cn c) (hr : r < m + 3) (hpos : 0 < T (r * 5 + q)) : am_Ty m g o C (i + 1) (am_up cn q (rn r)) := by
  subst hm
  have hu := h.2.2.2.1
  obtain ⟨k, hk, hok, h1, ⟨ct, hct, ect⟩, h3⟩ := hB
  have od : ∀ q', q' < 3 → ∀ c, c < 3 → cn c = 3 → am_d3 o (d q') = if c = q' then u else 0 := by
    intro q' hq' c hc ec
    have j := am_jt h (by omega) hc hq' ec
    rw [am_d3n hg] at j
    omega
  have hpt : am_hp T (1 + 3) 4 ct := am_dhp h hct (by rw [od ct hct ct hct ect, if_pos rfl]; exact hu)
  have hle := hl ct hct hpt
  rw [ect] at hle
  rcases h1 q hq with e | ⟨j, hj, hjk, e | ⟨e, _⟩⟩
  · -- the condition comes in
    have dz : ∀ i, i < 3 → i ≠ k → d q i = 0 := by
      intro i hi hik
      obtain ⟨c, hc, ec⟩ := h3 i hi hik
      rcases ec with ec | ec
      · rw [am_jx h hc hq hi ec, if_neg (by intro z; subst z; omega)]
      · rw [am_js h hc hq hi (by omega), if_neg (by intro z; subst z; omega)]; rfl
    have ok := od q hq q hq e
    rw [if_pos rfl, am_d3k hk dz] at ok
    have dk : 0 < d q k := by
      rcases Int.lt_or_le 0 (d q k) with y | y
      · exact y
      · have := Int.mul_nonpos_of_nonneg_of_nonpos (show 0 ≤ o k by omega) y
        omega
    rcases am_vcase (hN.1 r hr) (by omega) with v | ⟨m1, v⟩ | ⟨m2, v⟩ | ⟨i', hi', v⟩
    · rw [am_cx h hr hq v] at hpos
      by_cases z : rn r = k
      · rw [z] at hpos; omega
      · rw [dz _ v z] at hpos; omega
    · rw [am_ct h m1 hr hq v, am_d3n hg, od q hq q hq e, if_pos rfl] at hpos
      omega
    · omega
    · rw [am_cs h hr hq hi' v] at hpos
      have eik : i' = k := by
        by_cases z : i' = k
        · exact z
        · rw [dz i' hi' z] at hpos; omega
      subst eik
      refine Or.inl ⟨⟨fun c hc => ?_, fun i2 hi2 => ?_⟩, ?_⟩
      · by_cases ec : c = q
        · exact ⟨i', hk, Or.inr ⟨by rw [ec, am_ups]; exact v, hok⟩⟩
        · rw [am_upn _ _ ec]
          rcases h1 c hc with z | ⟨i2, hi2, _, z | ⟨z, zo⟩⟩
          · have a := od q hq c hc z
            have a' := od q hq q hq e
            rw [if_neg ec] at a
            rw [if_pos rfl] at a'
            omega
          · exact ⟨i2, hi2, Or.inl z⟩
          · exact ⟨i2, hi2, Or.inr ⟨by omega, zo⟩⟩
      · by_cases ei : i2 = i'
        · exact ⟨q, hq, Or.inr (by rw [am_ups, ei]; exact v)⟩
        · obtain ⟨c, hc, ec⟩ := h3 i2 hi2 ei
          refine ⟨c, hc, ?_⟩
          rw [am_upn _ _ (by intro z; subst z; omega)]
          rcases ec with ec | ec
          · exact Or.inl ec
          · exact Or.inr (by omega)
      · have := am_mu_lt (cn := cn) (v := rn r) hq (by
          rw [v, e]; unfold am_wt
          rw [if_neg (by omega), if_neg (by omega), if_neg (by omega), if_pos rfl]; omega)
        omega
  · -- an amount comes in
    have djj : d q j = u := by rw [am_jx h hq hq hj e, if_pos rfl]
    have dz : ∀ i, i < 3 → i ≠ j → i ≠ k → d q i = 0 := by
      intro i hi hij hik
      obtain ⟨c, hc, ec⟩ := h3 i hi hik
      rcases ec with ec | ec
      · rw [am_jx h hc hq hi ec, if_neg (by intro z; subst z; omega)]
      · rw [am_js h hc hq hi (by omega), if_neg (by intro z; subst z; omega)]; rfl
    have od0 : am_d3 o (d q) = 0 := by rw [od q hq ct hct ect, if_neg (by intro z; subst z; omega)]
    have sum := am_d3jk (o := o) hj hk hjk dz
    rw [od0, djj] at sum
    have other : ∀ c, c < 3 → c ≠ q → cn c ≠ j ∧ cn c ≠ 4 + j := by
      intro c hc hcq
      constructor
      · intro z
        have := am_jx h hc hq hj z
        rw [if_neg hcq] at this; omega
      · intro z
        have := am_js h hc hq hj (show cn c = 3 + 1 + j by omega)
        rw [if_neg hcq] at this; omega
    have dk : d q k < 0 ∧ k < j := by
      rcases am_hpd h hq hp with x | ⟨_, i, hi, hn, hz⟩
      · omega
      · have eik : i = k := by
          by_cases z : i = k
          · exact z
          · by_cases z2 : i = j
            · rw [z2] at hn; omega
            · rw [dz i hi z2 z] at hn; omega
        subst eik
        refine ⟨hn, ?_⟩
        rcases Nat.lt_or_ge i j with y | y
        · exact y
        · have := hz j (by omega); omega
    have hoj : 0 < o j := by
      have neg := Int.mul_neg_of_pos_of_neg hok dk.1
      rcases Int.lt_or_le 0 (o j) with y | y
      · exact y
      · have := Int.mul_nonpos_of_nonpos_of_nonneg y (show 0 ≤ u by omega)
        omega
    rcases am_vcase (hN.1 r hr) (by omega) with v | ⟨m1, v⟩ | ⟨m2, v⟩ | ⟨i', hi', v⟩
    · rw [am_cx h hr hq v] at hpos
      have evk : rn r = k := by
        by_cases z : rn r = k
        · exact z
        · by_cases z2 : rn r = j
          · rw [z2] at hpos; omega
          · rw [dz _ v z2 z] at hpos; omega
      refine Or.inr (Or.inr (Or.inl ⟨rfl, hg, ⟨j, hj, hoj, fun c hc => ?_, ⟨ct, hct, ?_⟩, fun i2 hi2 hi2j => ?_⟩, ?_⟩))
      · by_cases ec : c = q
        · exact Or.inr ⟨k, hk, fun z => hjk z.symm, Or.inl (by rw [ec, am_ups]; exact evk)⟩
        · rw [am_upn _ _ ec]
          have oc := other c hc ec
          rcases h1 c hc with z | ⟨i2, hi2, _, z | ⟨z, zo⟩⟩
          · exact Or.inl z
          · exact Or.inr ⟨i2, hi2, by omega, Or.inl z⟩
          · exact Or.inr ⟨i2, hi2, by omega, Or.inr ⟨z, zo⟩⟩
      · rw [am_upn _ _ (by intro z; subst z; omega)]; exact ect
      · by_cases ei : i2 = k
        · exact ⟨q, hq, Or.inl (by rw [am_ups, ei]; exact evk)⟩
        · obtain ⟨c, hc, ec⟩ := h3 i2 hi2 ei
          refine ⟨c, hc, ?_⟩
          rw [am_upn _ _ (by intro z; subst z; omega)]
          exact ec
      · have := am_mu_lt (cn := cn) (v := rn r) hq (by
          rw [evk, e]; unfold am_wt
          rw [if_pos hk, if_pos hj]; omega)
        omega
    · rw [am_ct h m1 hr hq v, am_d3n hg, od0] at hpos
      omega
    · omega
    · rw [am_cs h hr hq hi' v] at hpos
      have eij : i' = j := by
        by_cases z : i' = j
        · exact z
        · by_cases z2 : i' = k
          · rw [z2] at hpos; omega
          · rw [dz i' hi' z z2] at hpos; omega
      subst eij
      refine Or.inr (Or.inr (Or.inl ⟨rfl, hg, ⟨k, hk, hok, fun c hc => ?_, ⟨ct, hct, ?_⟩, fun i2 hi2 hi2j => ?_⟩, ?_⟩))
      · by_cases ec : c = q
        · exact Or.inr ⟨i', hj, hjk, Or.inr ⟨by rw [ec, am_ups]; omega, hoj⟩⟩
        · rw [am_upn _ _ ec]; exact h1 c hc
      · rw [am_upn _ _ (by intro z; subst z; omega)]; exact ect
      · by_cases ei : i2 = i'
        · exact ⟨q, hq, Or.inr (by rw [am_ups, ei]; omega)⟩
        · obtain ⟨c, hc, ec⟩ := h3 i2 hi2 hi2j
          refine ⟨c, hc, ?_⟩
          rw [am_upn _ _ (by intro z; subst z; omega)]
          exact ec
      · have := am_mu_lt (cn := cn) (v := rn r) hq (by
          rw [v, e]; unfold am_wt
          rw [if_neg (by omega), if_neg (by omega), if_pos hj]; omega)
        omega
  · omega
theorem am_stept (h : am_Q (am_F m g b) (am_G o) (m + 3) 4 u T rn cn X d) (hm : 1 ≤ m) (hg : ∀ j, j < 3 → g j = o j) {q v : Nat} (hq : q < 3) (hp : am_hp T (m + 3) 4 q) (hc : ∃ c, c < 3 ∧ cn c = 3) : ∃ c, c < 3 ∧ am_up cn q v c = 3 := by
  obtain ⟨c, hc, ec⟩ := hc
  have hu := h.2.2.2.1
  refine ⟨c, hc, ?_⟩
  rw [am_upn _ _ ?_]
  · exact ec
  · intro z
    subst z
    have j := am_jt h hm hc hc ec
    rw [am_d3p hg, if_pos rfl] at j
    rcases am_hpd h hc hp with x | ⟨x, _⟩ <;> omega
/-- the invariant over rounds -/
def am_I2 (m : Nat) (g : Nat → Int) (b : Int) (o : Nat → Int) (C : Prop) (i : Nat) (u : Int) (T : Nat → Int) (rn cn : Nat → Nat) : Prop :=
  ∃ X d, am_Q (am_F m g b) (am_G o) (m + 3) 4 u T rn cn X d ∧ am_N m rn cn ∧ am_fe (am_F m g b) m u X ∧ am_Ty m g o C i cn
theorem am_I2step (hm : m ≤ 2) (hk : am_hk m g o) {C : Prop} {i : Nat} (h : am_I2 m g b o C i u T rn cn) {q r : Nat} (hq : q < 3) (hp : am_hp T (m + 3) 4 q) (hl : ∀ c, c < 3 → am_hp T (m + 3) 4 c → cn q ≤ cn c) (hr : r < m + 3) (hpos : 0 < T (r * 5 + q)) (hlq : ∀ r', r' < m + 3 → 0 < T (r' * 5 + q) → am_lq T rn q r r') :
    am_I2 m g b o C (i + 1) (am_ab (T (r * 5 + q))) (am_ex T r q u 3 (m + 3 + 4)) (am_up rn r (cn q)) (am_up cn q (rn r)) := by
  obtain ⟨X, d, hQ, hN, hf, hT⟩ := h
  obtain ⟨X', d', hQ', hX'⟩ := am_Qx hQ hr hq (sp := 1) (Or.inl rfl) (by omega)
  have eab : am_ab (T (r * 5 + q)) = T (r * 5 + q) := by unfold am_ab; rw [if_pos (by omega)]
  have hf' := am_fex hQ.1 hQ.2.2.2.1 hN hf hr hq hpos hlq hX'
  refine ⟨X', d', hQ', am_Nx hN hr hq, by rw [eab]; exact hf', ?_⟩
  rcases hT with ⟨hA, hi⟩ | ⟨m1, hg, hc⟩ | ⟨m1, hg, hB, hi⟩ | hC
  · exact am_stepA hQ hN hm hk hA hi hq hp hr hpos
  · exact Or.inr (Or.inl ⟨m1, hg, am_stept hQ m1 hg hq hp hc⟩)
  · exact am_stepB hQ hN m1 hg hB hi hq hp hl hr hpos
  · exact Or.inr (Or.inr (Or.inr hC))
def am_ps (x : Int) : Int := if 0 < x then x else 0
def am_most (o : Nat → Int) : Int := 20 * (am_ps (o 0) + am_ps (o 1) + am_ps (o 2))
theorem am_I2exit (hm : m ≤ 2) {C : Prop} {i : Nat} (hQ : am_Q (am_F m g b) (am_G o) (m + 3) 4 u T rn cn X d) (hN : am_N m rn cn) (hT : am_Ty m g o C i cn)
    (hx : i = 100000 ∨ (∀ c, c < 3 → ¬ am_hp T (m + 3) 4 c) ∨ (∃ q, q < 3 ∧ am_hp T (m + 3) 4 q ∧ (∀ c, c < 3 → am_hp T (m + 3) 4 c → cn q ≤ cn c) ∧ ∀ r, r < m + 3 → T (r * 5 + q) ≤ 0)) :
    am_d3 o X = u * am_most o ∨ (1 ≤ m ∧ (∀ j, j < 3 → g j = o j) ∧ am_d3 o X = u * b) ∨ C := by
  have hu := hQ.2.2.2.1
  -- a bound's name that no column has is a row's
  have srow : ∀ q j, q < 3 → j < 3 → 0 < d q j → (∀ c, c < 3 → cn c ≠ 3 + m + j) → (∀ r, r < m + 3 → T (r * 5 + q) ≤ 0) → False := by
    intro q j hq hj hd hn hr
    rcases hN.2.2 (3 + m + j) (by omega) with ⟨r, hr1, er⟩ | ⟨c, hc, ec⟩
    · have := am_cs hQ hr1 hq hj er
      have := hr r hr1
      omega
    · exact hn c hc ec
  rcases hT with ⟨hA, hi⟩ | ⟨m1, hg, c, hc, ec⟩ | ⟨m1, hg, hB, hi⟩ | hC
  · left
    rcases hx with e | hx | ⟨q, hq, hp, _, hr⟩
    · omega
    · have key : ∀ i, i < 3 → o i * X i = u * (20 * am_ps (o i)) := by
        intro i hi
        obtain ⟨c, hc, ec⟩ := hA.2 i hi
        rcases ec with ec | ec
        · rw [am_kx hQ hc hi ec]
          have : ¬ 0 < o i := by
            intro ho
            refine hx c hc (am_dhp hQ hc ?_)
            rw [am_d3e hi (am_Ax hQ hA hc hi ec)]
            exact Int.mul_pos ho hu
          unfold am_ps
          rw [if_neg this]; grind
        · rw [am_ks hQ hc hi ec]
          have : 0 < o i := by
            obtain ⟨i2, hi2, z | ⟨z, zo⟩⟩ := hA.1 c hc
            · omega
            · have : i2 = i := by omega
              subst this; exact zo
          unfold am_ps
          rw [if_pos this]; grind
      have k0 := key 0 (by omega)
      have k1 := key 1 (by omega)
      have k2 := key 2 (by omega)
      unfold am_d3 am_most
      rw [k0, k1, k2]; grind
    · exfalso
      obtain ⟨j, hj, e, ho⟩ := am_Ah hQ hA hq hp
      have dd := am_Ax hQ hA hq hj e j hj
      rw [if_pos rfl] at dd
      refine srow q j hq hj (by omega) (fun c hc z => ?_) hr
      have := am_js hQ hc hq hj z
      by_cases e2 : c = q
      · subst e2; omega
      · rw [if_neg e2] at this; omega
  · right; left
    refine ⟨m1, hg, ?_⟩
    rw [← am_d3p hg, am_kt hQ m1 hc ec]
  · exfalso
    subst m1
    obtain ⟨k, hk, hok, h1, ⟨ct, hct, ect⟩, h3⟩ := hB
    have od : ∀ q', q' < 3 → ∀ c, c < 3 → cn c = 3 → am_d3 o (d q') = if c = q' then u else 0 := by
      intro q' hq' c hc ec
      have j := am_jt hQ (by omega) hc hq' ec
      rw [am_d3n hg] at j
      omega
    have hpt : am_hp T (1 + 3) 4 ct := am_dhp hQ hct (by rw [od ct hct ct hct ect, if_pos rfl]; exact hu)
    rcases hx with e | hx | ⟨q, hq, hp, hl, hr⟩
    · omega
    · exact hx ct hct hpt
    · have hle := hl ct hct hpt
      rw [ect] at hle
      rcases h1 q hq with e | ⟨j, hj, hjk, e | ⟨e, _⟩⟩
      · have dz : ∀ i, i < 3 → i ≠ k → d q i = 0 := by
          intro i hi hik
          obtain ⟨c, hc, ec⟩ := h3 i hi hik
          rcases ec with ec | ec
          · rw [am_jx hQ hc hq hi ec, if_neg (by intro z; subst z; omega)]
          · rw [am_js hQ hc hq hi (by omega), if_neg (by intro z; subst z; omega)]; rfl
        have ok := od q hq q hq e
        rw [if_pos rfl, am_d3k hk dz] at ok
        have dk : 0 < d q k := by
          rcases Int.lt_or_le 0 (d q k) with y | y
          · exact y
          · have := Int.mul_nonpos_of_nonneg_of_nonpos (show 0 ≤ o k by omega) y
            omega
        refine srow q k hq hk dk (fun c hc z => ?_) hr
        rcases h1 c hc with z2 | ⟨i2, hi2, hik, z2 | ⟨z2, _⟩⟩ <;> omega
      · have djj : d q j = u := by rw [am_jx hQ hq hq hj e, if_pos rfl]
        refine srow q j hq hj (by omega) (fun c hc z => ?_) hr
        have := am_js hQ hc hq hj z
        by_cases e2 : c = q
        · subst e2; omega
        · rw [if_neg e2] at this; omega
      · omega
  · exact Or.inr (Or.inr hC)
end
end
section
/-! the first climb: its path is explicit. z: which amounts stand at their bound -/
def am_e (c j : Nat) : Int := if j = c then 1 else 0
def am_zu (g z : Nat → Int) : Int := 1 - am_d3 g z
def am_zE (g : Nat → Int) (b : Int) (z : Nat → Int) : Int := -b + 20 * am_d3 g z
def am_zv (z : Nat → Int) (j : Nat) : Int := if j = 3 then 1 else z j
def am_zg (g z : Nat → Int) (c : Nat) : Int := g c * (1 - 2 * z c)
def am_zd (g z : Nat → Int) (c j : Nat) : Int := if c < 3 then am_zg g z c * am_zv z j + (1 - 2 * z c) * am_zu g z * am_e c j else am_zv z j
def am_zX (g : Nat → Int) (b : Int) (z : Nat → Int) (j : Nat) : Int := am_zE g b z * am_zv z j + 20 * am_zu g z * (am_zv z j - am_e 3 j)
theorem am_e_s (c : Nat) : am_e c c = 1 := by unfold am_e; rw [if_pos rfl]
theorem am_e_n {c j : Nat} (h : j ≠ c) : am_e c j = 0 := by unfold am_e; rw [if_neg h]
theorem am_zv3 (z : Nat → Int) : am_zv z 3 = 1 := by unfold am_zv; rw [if_pos rfl]
theorem am_zvn (z : Nat → Int) {j : Nat} (h : j < 3) : am_zv z j = z j := by unfold am_zv; rw [if_neg (by omega)]
theorem am_d3up {g z : Nat → Int} {q : Nat} (hq : q < 3) (hz : z q = 0) : am_d3 g (am_up z q 1) = am_d3 g z + g q := by
  have : q = 0 ∨ q = 1 ∨ q = 2 := by omega
  rcases this with e | e | e <;> subst e <;> simp [am_d3, am_up, hz] <;> grind
theorem am_zvup {z : Nat → Int} {q : Nat} (hq : q < 3) (hz : z q = 0) (j : Nat) : am_zv (am_up z q 1) j = am_zv z j + am_e q j := by
  unfold am_zv am_e
  by_cases h3 : j = 3
  · rw [if_pos h3, if_pos h3, if_neg (by omega)]; rfl
  · rw [if_neg h3, if_neg h3]
    by_cases hj : j = q
    · rw [if_pos hj, hj, am_ups, hz]; rfl
    · rw [if_neg hj, am_upn _ _ hj]; omega
/-- the broken condition, seen from its own row -/
def am_L1 (m low : Nat) (g : Nat → Int) (b : Int) (gl : Nat → Int) (bl : Int) : Prop :=
  low < m ∧ m ≤ 2 ∧ (∀ w, am_dot (am_F m g b (3 + low)) w = w 3 - am_d3 gl w) ∧ am_F m g b (3 + low) 4 = bl ∧ (∀ j, j < 3 → am_F m g b (3 + low) j = -(gl j)) ∧
  (m = 2 → (∀ w, am_dot (am_F m g b (4 - low)) w = w 3 + am_d3 gl w) ∧ am_F m g b (4 - low) 4 = -bl)
theorem am_L1a {m : Nat} (hm : 1 ≤ m) (hm2 : m ≤ 2) (g : Nat → Int) (b : Int) : am_L1 m 0 g b g b := by
  refine ⟨hm, hm2, fun w => (am_Ft hm g b w).1, (am_Ft hm g b g).2, ?_, fun e => ?_⟩
  · have h : (3 : Nat) < 3 + m := by omega
    refine am_3 ?_ ?_ ?_ <;> simp [am_F, h]
  · subst e
    exact ⟨fun w => (am_Fu g b w).1, (am_Fu g b g).2⟩
theorem am_L1b (g : Nat → Int) (b : Int) : am_L1 2 1 g b (fun j => -(g j)) (-b) := by
  have e : ∀ w, am_d3 (fun j => -(g j)) w = -(am_d3 g w) := fun w => am_d3n (fun _ _ => rfl)
  refine ⟨by omega, by omega, fun w => ?_, (am_Fu g b g).2, ?_, fun _ => ⟨fun w => ?_, ?_⟩⟩
  · rw [e]; have := (am_Fu g b w).1; show am_dot (am_F 2 g b 4) w = _; omega
  · refine am_3 ?_ ?_ ?_ <;> simp [am_F]
  · rw [e]; have := (am_Ft (m := 2) (by omega) g b w).1; show am_dot (am_F 2 g b 3) w = _; omega
  · have := (am_Ft (m := 2) (by omega) g b g).2; show am_F 2 g b 3 4 = _; omega
section
variable {m low : Nat} {g gl o : Nat → Int} {b bl u : Int} {T : Nat → Int} {rn cn : Nat → Nat} {X : Nat → Int} {d : Nat → Nat → Int} {z : Nat → Int}
theorem am_4e (h : am_pic (am_F m g b) (am_G o) (m + 3) 5 4 u T rn cn X d) {r c : Nat} (hr : r < m + 3) (hc : c < 4) (hv : 6 + m ≤ rn r) : T (r * 5 + c) = -(d c 3) ∧ T (r * 5 + 4) = X 3 := by
  obtain ⟨h1, h2⟩ := h.1 r hr
  have h1 := h1 c hc
  rw [(am_Fe hv g b (d c)).1] at h1
  rw [(am_Fe hv g b X).1, (am_Fe hv g b X).2] at h2
  omega
theorem am_4x (h : am_pic (am_F m g b) (am_G o) (m + 3) 5 4 u T rn cn X d) {r c i : Nat} (hr : r < m + 3) (hc : c < 4) (hi : i < 3) (hv : rn r = i) : T (r * 5 + c) = -(d c i) ∧ T (r * 5 + 4) = X i := by
  obtain ⟨h1, h2⟩ := h.1 r hr
  have h1 := h1 c hc
  rw [hv, (am_Fx m g b (d c) i hi).1] at h1
  rw [hv, (am_Fx m g b X i hi).1, (am_Fx m g b X i hi).2] at h2
  omega
theorem am_4s (h : am_pic (am_F m g b) (am_G o) (m + 3) 5 4 u T rn cn X d) {r c i : Nat} (hr : r < m + 3) (hc : c < 4) (hi : i < 3) (hv : rn r = 3 + m + i) : T (r * 5 + c) = d c i - d c 3 ∧ T (r * 5 + 4) = X 3 - X i + 20 * u := by
  obtain ⟨h1, h2⟩ := h.1 r hr
  have h1 := h1 c hc
  rw [hv, (am_Fs m g b (d c) i hi).1] at h1
  rw [hv, (am_Fs m g b X i hi).1, (am_Fs m g b X i hi).2] at h2
  omega
theorem am_4o (h : am_pic (am_F m g b) (am_G o) (m + 3) 5 4 u T rn cn X d) (hL : am_L1 m low g b gl bl) (hm : m = 2) {r c : Nat} (hr : r < m + 3) (hc : c < 4) (hv : rn r = 4 - low) : T (r * 5 + c) = -(d c 3) - am_d3 gl (d c) ∧ T (r * 5 + 4) = X 3 + am_d3 gl X - u * bl := by
  obtain ⟨h1, h2⟩ := h.1 r hr
  have h1 := h1 c hc
  obtain ⟨l1, l2⟩ := hL.2.2.2.2.2 hm
  rw [hv, l1] at h1
  rw [hv, l1, l2] at h2
  have e : u * -bl = -(u * bl) := by grind
  omega
theorem am_4w (h : am_pic (am_F m g b) (am_G o) (m + 3) 5 4 u T rn cn X d) {c : Nat} (hc : c < 4) : T ((m + 3 + 4) * 5 + c) = d c 3 ∧ T ((m + 3 + 4) * 5 + 4) = -(X 3) := by
  obtain ⟨h1, h2⟩ := h.2.1 4 (by omega)
  have h1 := h1 c hc
  rw [(am_G4 o (d c)).1] at h1
  rw [(am_G4 o X).1, (am_G4 o X).2] at h2
  omega
/-- which amounts stand at their bound: only such as help -/
def am_z01 (gl z : Nat → Int) : Prop := ∀ i, i < 3 → z i = 0 ∨ (z i = 1 ∧ gl i < 0)
theorem am_zu_pos (hz : am_z01 gl z) : 0 < am_zu gl z := by
  have key : ∀ i, i < 3 → gl i * z i ≤ 0 := by
    intro i hi
    rcases hz i hi with e | ⟨e, hn⟩
    · rw [e]; omega
    · rw [e]; omega
  have k0 := key 0 (by omega)
  have k1 := key 1 (by omega)
  have k2 := key 2 (by omega)
  unfold am_zu am_d3; omega
/-- names while the additional variable is a row -/
def am_n1 (m low : Nat) (z : Nat → Int) (rn cn : Nat → Nat) : Prop :=
  rn low = 99 ∧ (∀ r, r < m → r ≠ low → rn r = 3 + r) ∧ (∀ i, i < 3 → rn (m + i) = if z i = 1 then i else 3 + m + i) ∧ (∀ c, c < 3 → cn c = if z c = 1 then 3 + m + c else c) ∧ cn 3 = 3 + low
def am_S1 (m low : Nat) (g : Nat → Int) (b : Int) (o gl : Nat → Int) (bl : Int) (z : Nat → Int) (u : Int) (T : Nat → Int) (rn cn : Nat → Nat) : Prop :=
  am_z01 gl z ∧ 0 ≤ am_zE gl bl z ∧ u = am_zu gl z ∧ am_pic (am_F m g b) (am_G o) (m + 3) 5 4 u T rn cn (am_zX gl bl z) (am_zd gl z) ∧ am_n1 m low z rn cn
theorem am_zdq {c : Nat} (hq : c < 3) (hz : z c = 0) (j : Nat) : am_zd gl z c j = gl c * am_zv z j + am_zu gl z * am_e c j := by
  unfold am_zd am_zg; rw [if_pos hq, hz]; grind
theorem am_zd3 (j : Nat) : am_zd gl z 3 j = am_zv z j := by unfold am_zd; rw [if_neg (by omega)]
theorem am_zdc {c : Nat} (hc : c < 3) (j : Nat) : am_zd gl z c j = am_zg gl z c * am_zv z j + (1 - 2 * z c) * am_zu gl z * am_e c j := by unfold am_zd; rw [if_pos hc]
/-- an amount goes to its bound -/
theorem am_S1s (h : am_S1 m low g b o gl bl z u T rn cn) (hL : am_L1 m low g b gl bl) {q : Nat} (hq : q < 3) (hz : z q = 0) (hg : gl q < 0) (hE : 0 ≤ am_zE gl bl z + 20 * gl q) :
    am_S1 m low g b o gl bl (am_up z q 1) (am_ab (T ((m + q) * 5 + q))) (am_ex T (m + q) q u 4 (m + 3 + 5)) (am_up rn (m + q) (cn q)) (am_up cn q (rn (m + q))) := by
  obtain ⟨z01, hE0, hu, pic, n1, n2, n3, n4, n5⟩ := h
  have hu0 := am_zu_pos z01
  have z01' : am_z01 gl (am_up z q 1) := by
    intro i hi
    by_cases e : i = q
    · right; rw [e, am_ups]; exact ⟨rfl, hg⟩
    · rw [am_upn _ _ e]; exact z01 i hi
  have enm : rn (m + q) = 3 + m + q := by rw [n3 q hq, if_neg (by omega)]
  have ecn : cn q = q := by rw [n4 q hq, if_neg (by omega)]
  have rowc : ∀ c, c < 3 → c ≠ q → T ((m + q) * 5 + c) = -(am_zg gl z c) := by
    intro c hc hcq
    rw [(am_4s pic (by omega) (show c < 4 by omega) hq enm).1, am_zdc hc, am_zdc hc, am_zvn z hq, hz, am_zv3, am_e_n (show q ≠ c by omega), am_e_n (show 3 ≠ c by omega)]; grind
  have rowq : T ((m + q) * 5 + q) = am_zu gl z - gl q := by
    rw [(am_4s pic (by omega) (show q < 4 by omega) hq enm).1, am_zdq hq hz, am_zdq hq hz, am_zvn z hq, hz, am_zv3, am_e_s, am_e_n (show 3 ≠ q by omega)]; grind
  have row3 : T ((m + q) * 5 + 3) = -1 := by
    rw [(am_4s pic (by omega) (show 3 < 4 by omega) hq enm).1, am_zd3, am_zd3, am_zvn z hq, hz, am_zv3]; omega
  have rowR : T ((m + q) * 5 + 4) = am_zE gl bl z + 20 * am_zu gl z := by
    rw [(am_4s pic (by omega) (show q < 4 by omega) hq enm).2, hu]
    unfold am_zX
    rw [am_zvn z hq, hz, am_zv3, am_e_s, am_e_n (show q ≠ 3 by omega)]; grind
  have eu : am_zu gl (am_up z q 1) = am_zu gl z - gl q := by unfold am_zu; rw [am_d3up hq hz]; omega
  have eE : am_zE gl bl (am_up z q 1) = am_zE gl bl z + 20 * gl q := by unfold am_zE; rw [am_d3up hq hz]; omega
  have pos : 0 < 1 * T ((m + q) * 5 + q) := by rw [rowq]; omega
  refine ⟨z01', by rw [eE]; exact hE, ?_, ?_, ?_, ?_, ?_, ?_, ?_⟩
  · rw [am_ab_sgn (Or.inl rfl) pos, rowq, eu]; omega
  · refine am_pivot pic (by omega) (by omega) (by omega) (by omega) (Or.inl rfl) pos ?_ ?_ ?_
    · intro j hj
      rw [rowq, rowR, hu, am_zdq hq hz]
      unfold am_zX
      rw [eE, eu, am_zvup hq hz]; grind
    · intro c hc hcq j hj
      by_cases c3 : c = 3
      · subst c3
        rw [am_zd3, am_zd3, rowq, row3, hu, am_zdq hq hz, am_zvup hq hz]; grind
      · have hc3 : c < 3 := by omega
        rw [am_zdc hc3, am_zdc hc3, rowq, rowc c hc3 hcq, hu, am_zdq hq hz, am_zvup hq hz, eu]
        unfold am_zg
        rw [am_upn _ _ hcq]; grind
    · intro j hj
      rw [am_zdq hq hz, am_zdc hq, am_zvup hq hz, eu]
      unfold am_zg
      rw [am_ups]; grind
  · rw [am_upn _ _ (by have := hL.1; omega)]; exact n1
  · intro r hr hrl
    rw [am_upn _ _ (by omega)]; exact n2 r hr hrl
  · intro i hi
    by_cases e : i = q
    · rw [e, am_ups, am_ups, if_pos rfl, ecn]
    · rw [am_upn _ _ (by omega), am_upn _ _ e]; exact n3 i hi
  · intro c hc
    by_cases e : c = q
    · rw [e, am_ups, am_ups, if_pos rfl, enm]
    · rw [am_upn _ _ e, am_upn _ _ e]; exact n4 c hc
  · rw [am_upn _ _ (by omega)]; exact n5
/-- the additional variable leaves at q -/
def am_X2 (gl : Nat → Int) (bl : Int) (z : Nat → Int) (q j : Nat) : Int := -(20 * gl q * (am_zv z j - am_e 3 j)) + am_zE gl bl z * am_e q j
def am_d2 (gl z : Nat → Int) (q c j : Nat) : Int := if c = q then -(am_zd gl z q j) else if c < 3 then -(gl q * (1 - 2 * z c) * am_e c j) + am_zg gl z c * am_e q j else am_e q j
theorem am_S1e (h : am_S1 m low g b o gl bl z u T rn cn) (hL : am_L1 m low g b gl bl) {q : Nat} (hq : q < 3) (hz : z q = 0) (hg : gl q < 0) :
    am_pic (am_F m g b) (am_G o) (m + 3) 5 4 (am_ab (T (low * 5 + q))) (am_ex T low q u 4 (m + 3 + 5)) (am_up rn low (cn q)) (am_up cn q (rn low)) (am_X2 gl bl z q) (am_d2 gl z q) ∧ am_ab (T (low * 5 + q)) = -(gl q) := by
  obtain ⟨z01, hE0, hu, pic, n1, n2, n3, n4, n5⟩ := h
  have hu0 := am_zu_pos z01
  obtain ⟨l1, l2, _⟩ := hL
  have rowc : ∀ c, c < 3 → T (low * 5 + c) = -(am_zg gl z c) := by
    intro c hc
    rw [(am_4e pic (by omega) (show c < 4 by omega) (by omega)).1, am_zdc hc, am_zv3, am_e_n (show 3 ≠ c by omega)]; grind
  have rowq : T (low * 5 + q) = -(gl q) := by
    rw [rowc q hq]; unfold am_zg; rw [hz]; grind
  have row3 : T (low * 5 + 3) = -1 := by
    rw [(am_4e pic (by omega) (show 3 < 4 by omega) (by omega)).1, am_zd3, am_zv3]
  have rowR : T (low * 5 + 4) = am_zE gl bl z := by
    rw [(am_4e pic (by omega) (show 3 < 4 by omega) (by omega)).2]
    unfold am_zX
    rw [am_zv3, am_e_s]; grind
  have pos : 0 < 1 * T (low * 5 + q) := by rw [rowq]; omega
  refine ⟨am_pivot pic (by omega) (by omega) (by omega) (by omega) (Or.inl rfl) pos ?_ ?_ ?_, by rw [am_ab_sgn (Or.inl rfl) pos, rowq]; omega⟩
  · intro j hj
    rw [rowq, rowR, hu, am_zdq hq hz]
    unfold am_zX am_X2
    grind
  · intro c hc hcq j hj
    unfold am_d2
    rw [if_neg hcq]
    by_cases c3 : c = 3
    · subst c3
      rw [if_neg (by omega), am_zd3, rowq, row3, hu, am_zdq hq hz]; grind
    · have hc3 : c < 3 := by omega
      rw [if_pos hc3, am_zdc hc3, rowq, rowc c hc3, hu, am_zdq hq hz]
      unfold am_zg
      grind
  · intro j hj
    unfold am_d2
    rw [if_pos rfl]; omega
/-- the other condition leaves at q, then the additional variable is dropped there -/
def am_d3' (gl z : Nat → Int) (q c j : Nat) : Int := if c = q then -(am_zd gl z q j) else if c < 3 then 2 * am_d2 gl z q c j else -(gl q * am_zv z j) - (am_zu gl z - 2) * am_e q j
theorem am_zgd (c : Nat) (hc : c < 3) : am_d3 gl (am_zd gl z c) = am_zg gl z c := by
  have e : am_d3 gl (am_zd gl z c) = am_zg gl z c * am_d3 gl z + (1 - 2 * z c) * am_zu gl z * am_d3 gl (am_e c) := by
    unfold am_d3
    rw [am_zdc hc, am_zdc hc, am_zdc hc, am_zvn z (show 0 < 3 by omega), am_zvn z (show 1 < 3 by omega), am_zvn z (show 2 < 3 by omega)]; grind
  have e2 : am_d3 gl (am_e c) = gl c := by
    have := am_d3e (o := gl) (w := am_e c) (x := 1) hc (fun i _ => rfl)
    rw [this]; omega
  rw [e, e2]
  unfold am_zu am_zg; grind
theorem am_S1o (h : am_S1 m low g b o gl bl z u T rn cn) (hL : am_L1 m low g b gl bl) (hm : m = 2) {q : Nat} (hq : q < 3) (hz : z q = 0) (hg : gl q < 0) :
    am_pic (am_F m g b) (am_G o) (m + 3) 5 4 (am_ab (T ((1 - low) * 5 + q))) (am_ex T (1 - low) q u 4 (m + 3 + 5)) (am_up rn (1 - low) (cn q)) (am_up cn q (rn (1 - low))) (fun j => 2 * am_X2 gl bl z q j) (am_d3' gl z q) ∧ am_ab (T ((1 - low) * 5 + q)) = -(2 * gl q) := by
  obtain ⟨z01, hE0, hu, pic, n1, n2, n3, n4, n5⟩ := h
  have hu0 := am_zu_pos z01
  have l1 := hL.1
  have enm : rn (1 - low) = 4 - low := by rw [n2 (1 - low) (by omega) (by omega)]; omega
  have rowc : ∀ c, c < 3 → T ((1 - low) * 5 + c) = -(2 * am_zg gl z c) := by
    intro c hc
    rw [(am_4o pic hL hm (by omega) (show c < 4 by omega) enm).1, am_zgd c hc, am_zdc hc, am_zv3, am_e_n (show 3 ≠ c by omega)]; grind
  have rowq : T ((1 - low) * 5 + q) = -(2 * gl q) := by
    rw [rowc q hq]; unfold am_zg; rw [hz]; grind
  have gv : am_d3 gl (am_zv z) = 1 - am_zu gl z := by
    unfold am_zu am_d3
    rw [am_zvn z (show 0 < 3 by omega), am_zvn z (show 1 < 3 by omega), am_zvn z (show 2 < 3 by omega)]; omega
  have row3 : T ((1 - low) * 5 + 3) = am_zu gl z - 2 := by
    have e : am_zd gl z 3 = am_zv z := by funext j; exact am_zd3 j
    rw [(am_4o pic hL hm (by omega) (show 3 < 4 by omega) enm).1, e, gv, am_zv3]; omega
  have rowR : T ((1 - low) * 5 + 4) = 2 * am_zE gl bl z := by
    rw [(am_4o pic hL hm (by omega) (show 3 < 4 by omega) enm).2, hu]
    have e : am_d3 gl (am_zX gl bl z) = (am_zE gl bl z + 20 * am_zu gl z) * am_d3 gl z := by
      unfold am_d3 am_zX
      rw [am_zvn z (show 0 < 3 by omega), am_zvn z (show 1 < 3 by omega), am_zvn z (show 2 < 3 by omega), am_e_n (show 0 ≠ 3 by omega), am_e_n (show 1 ≠ 3 by omega), am_e_n (show 2 ≠ 3 by omega)]; grind
    rw [e]
    have e3 : am_zX gl bl z 3 = am_zE gl bl z := by
      unfold am_zX
      rw [am_zv3, am_e_s]; grind
    rw [e3]
    unfold am_zu am_zE; grind
  have pos : 0 < 1 * T ((1 - low) * 5 + q) := by rw [rowq]; omega
  refine ⟨am_pivot pic (by omega) (by omega) (by omega) (by omega) (Or.inl rfl) pos ?_ ?_ ?_, by rw [am_ab_sgn (Or.inl rfl) pos, rowq]; omega⟩
  · intro j hj
    rw [rowq, rowR, hu, am_zdq hq hz]
    unfold am_zX am_X2
    grind
  · intro c hc hcq j hj
    unfold am_d3'
    rw [if_neg hcq]
    by_cases c3 : c = 3
    · subst c3
      rw [if_neg (by omega), am_zd3, rowq, row3, hu, am_zdq hq hz]; grind
    · have hc3 : c < 3 := by omega
      unfold am_d2
      rw [if_neg hcq, if_pos hc3, if_pos hc3, am_zdc hc3, rowq, rowc c hc3, hu, am_zdq hq hz]
      unfold am_zg
      grind
  · intro j hj
    unfold am_d3'
    rw [if_pos rfl]; omega
theorem am_S1p {q : Nat} (pic : am_pic (am_F m g b) (am_G o) (m + 3) 5 4 u T rn cn (fun j => 2 * am_X2 gl bl z q j) (am_d3' gl z q)) (hq : q < 3) (hz : z q = 0) (hg : gl q < 0) (hu : u = -(2 * gl q)) (hl : low < m + 3) (hr : 6 + m ≤ rn low) :
    am_pic (am_F m g b) (am_G o) (m + 3) 5 4 (am_ab (T (low * 5 + q))) (am_ex T low q u 4 (m + 3 + 5)) (am_up rn low (cn q)) (am_up cn q (rn low)) (am_X2 gl bl z q) (am_d2 gl z q) ∧ am_ab (T (low * 5 + q)) = -(gl q) ∧ (∀ c, c < 3 → c ≠ q → T (low * 5 + c) = 0) ∧ T (low * 5 + q) ≠ 0 := by
  have x3 : am_X2 gl bl z q 3 = 0 := by
    unfold am_X2
    rw [am_zv3, am_e_s, am_e_n (show 3 ≠ q by omega)]; grind
  have rowc : ∀ c, c < 3 → c ≠ q → T (low * 5 + c) = 0 := by
    intro c hc hcq
    rw [(am_4e pic hl (show c < 4 by omega) hr).1]
    unfold am_d3' am_d2
    rw [if_neg hcq, if_pos hc, if_neg hcq, if_pos hc, am_e_n (show 3 ≠ c by omega), am_e_n (show 3 ≠ q by omega)]; grind
  have rowq : T (low * 5 + q) = gl q := by
    rw [(am_4e pic hl (show q < 4 by omega) hr).1]
    unfold am_d3'
    rw [if_pos rfl, am_zdq hq hz, am_zv3, am_e_n (show 3 ≠ q by omega)]; grind
  have row3 : T (low * 5 + 3) = gl q := by
    rw [(am_4e pic hl (show 3 < 4 by omega) hr).1]
    unfold am_d3'
    rw [if_neg (by omega), if_neg (by omega), am_zv3, am_e_n (show 3 ≠ q by omega)]; grind
  have rowR : T (low * 5 + 4) = 0 := by
    rw [(am_4e pic hl (show 3 < 4 by omega) hr).2, x3]; rfl
  have pos : 0 < -1 * T (low * 5 + q) := by rw [rowq]; omega
  refine ⟨am_pivot pic (by omega) (by omega) (by omega) (by omega) (Or.inr rfl) pos ?_ ?_ ?_, by rw [am_ab_sgn (Or.inr rfl) pos, rowq]; omega, rowc, by omega⟩
  · intro j hj
    rw [rowq, rowR, hu]; grind
  · intro c hc hcq j hj
    unfold am_d3'
    rw [if_neg hcq, if_pos rfl]
    by_cases c3 : c = 3
    · subst c3
      unfold am_d2
      rw [if_neg hcq, if_neg (by omega), if_neg (by omega), rowq, row3, hu, am_zdq hq hz]; grind
    · have hc3 : c < 3 := by omega
      rw [if_pos hc3, rowq, rowc c hc3 hcq, hu]; grind
  · intro j hj
    unfold am_d2 am_d3'
    rw [if_pos rfl, if_pos rfl]; omega
/-- the additional variable stays a row at 0, and is dropped -/
def am_X4 (z : Nat → Int) (x : Int) (j : Nat) : Int := 20 * x * (am_zv z j - am_e 3 j)
def am_d4 (gl z : Nat → Int) (q c j : Nat) : Int := if c = q then am_zd gl z q j else if c < 3 then am_zg gl z q * (1 - 2 * z c) * am_e c j - am_zg gl z c * (1 - 2 * z q) * am_e q j else -((1 - 2 * z q) * am_e q j)
theorem am_S1d (h : am_S1 m low g b o gl bl z u T rn cn) (hL : am_L1 m low g b gl bl) {q : Nat} (hq : q < 3) (hE : am_zE gl bl z = 0) (hg : 0 < am_zg gl z q) :
    am_pic (am_F m g b) (am_G o) (m + 3) 5 4 (am_ab (T (low * 5 + q))) (am_ex T low q u 4 (m + 3 + 5)) (am_up rn low (cn q)) (am_up cn q (rn low)) (am_X4 z (am_zg gl z q)) (am_d4 gl z q) ∧ am_ab (T (low * 5 + q)) = am_zg gl z q := by
  obtain ⟨z01, hE0, hu, pic, n1, n2, n3, n4, n5⟩ := h
  have hu0 := am_zu_pos z01
  obtain ⟨l1, l2, _⟩ := hL
  have rowc : ∀ c, c < 3 → T (low * 5 + c) = -(am_zg gl z c) := by
    intro c hc
    rw [(am_4e pic (by omega) (show c < 4 by omega) (by omega)).1, am_zdc hc, am_zv3, am_e_n (show 3 ≠ c by omega)]; grind
  have row3 : T (low * 5 + 3) = -1 := by
    rw [(am_4e pic (by omega) (show 3 < 4 by omega) (by omega)).1, am_zd3, am_zv3]
  have rowR : T (low * 5 + 4) = 0 := by
    rw [(am_4e pic (by omega) (show 3 < 4 by omega) (by omega)).2]
    unfold am_zX
    rw [am_zv3, am_e_s, hE]; grind
  have pos : 0 < -1 * T (low * 5 + q) := by rw [rowc q hq]; omega
  refine ⟨am_pivot pic (by omega) (by omega) (by omega) (by omega) (Or.inr rfl) pos ?_ ?_ ?_, by rw [am_ab_sgn (Or.inr rfl) pos, rowc q hq]; omega⟩
  · intro j hj
    rw [rowc q hq, rowR, hu]
    unfold am_zX am_X4
    rw [hE]; grind
  · intro c hc hcq j hj
    unfold am_d4
    rw [if_neg hcq]
    by_cases c3 : c = 3
    · subst c3
      rw [if_neg (by omega), am_zd3, rowc q hq, row3, hu, am_zdc hq]; grind
    · have hc3 : c < 3 := by omega
      rw [if_pos hc3, am_zdc hc3, rowc q hq, rowc c hc3, hu, am_zdc hq]
      grind
  · intro j hj
    unfold am_d4
    rw [if_pos rfl]; omega
end
end
section
/-! bits of 'turned' and 'present' -/
theorem am_bit {t i : Nat} (ht : t < 8) (hi : i < 5) : ((nI t >>> (nI i &&& 31)) &&& 1) = nI (t / 2 ^ i % 2) := by
  have h : ∀ t : Fin 8, ∀ i : Fin 5, ((nI t.val >>> (nI i.val &&& 31)) &&& 1) = nI (t.val / 2 ^ i.val % 2) := by decide +kernel
  exact h ⟨t, ht⟩ ⟨i, hi⟩
def am_tu (t i : Nat) : Prop := t / 2 ^ i % 2 = 0
theorem am_tub {t i : Nat} {A B : Prop} (ht : t < 8) (hi : i < 5) (f : t / 2 ^ i % 2 = 0 → A) (g : t / 2 ^ i % 2 = 1 → B) : (((nI t >>> (nI i &&& 31)) &&& 1) = 0 → A) ∧ (¬ ((nI t >>> (nI i &&& 31)) &&& 1) = 0 → B) :=
  pk_eq (t / 2 ^ i % 2) 0 f (fun z => g (by omega)) (am_bit ht hi)
/-- a number seen up or down, and where its amount is counted from -/
def am_sw (t : Nat) (n : Nat → Int) (i : Nat) : Int := if t / 2 ^ i % 2 = 0 then n i else -(n i)
def am_fr (t : Nat) (lo hv : Nat → Int) (i : Nat) : Int := if t / 2 ^ i % 2 = 0 then lo i else hv i
def am_bd (t : Nat) (lo hv n : Nat → Int) (B : Int) : Nat → Int
  | 0 => B
  | i + 1 => am_bd t lo hv n B i - n i * am_fr t lo hv i
theorem am_upk {α : Type} {f : Nat → α} {k : Nat} {v : α} {P : α → Prop} {j : Nat} (h1 : j = k → P v) (h2 : j ≠ k → P (f j)) : P (am_up f k v j) := by
  unfold am_up
  split
  · exact h1 (by assumption)
  · exact h2 (by assumption)
section
variable {pr_ wo_ ro_ tu_ co_ fw_ wc_ li_ em_ hh_ hl_ br_ l3_ g3_ : Int32} {un_ wt_ wb_ ht_ hb_ lt_ lb_ : Int64} {a1 a2 a3 a4 a5 a6 a7 a8 a9 a11 a12 a18 a19 : Nat → Int32} {a10 a13 a14 a15 a16 a17 : Nat → Int64}
theorem am_has {post : Int32 → Prop} {P k : Nat} (hP : P < 8) (hk : k < 5) (h0 : P / 2 ^ k % 2 = 0 → post 0) (h1 : P / 2 ^ k % 2 = 1 → post 1) : wpX_has post (nI P, wo_, ro_, tu_, un_, co_, fw_, wc_, wt_, wb_, li_, em_, hh_, ht_, hb_, hl_, lt_, lb_, br_, l3_, g3_, a1, a2, a3, a4, a5, a6, a7, a8, a9, a10, a11, a12, a13, a14, a15, a16, a17, a18, a19) (nI k) := by
  unfold wpX_has
  refine br_f (nI_pos (by omega)) (pk_le 5 k (fun z => absurd z (by omega)) (fun _ => ?_))
  exact am_tub hP hk h0 h1
/-- one inequality's row -/
theorem am_addRow {post : St2 → Prop} {t rows k : Nat} {s : Int} {N Bd lo hv R Q : Nat → Int} (ht : t < 8) (hr : rows < 16) (hk : k < 5)
    (hs : s = 1 ∨ s = -1)
    (h : ∀ R', (∀ j, j < rows * 3 → R' j = R j) → (∀ i, i < 3 → R' (rows * 3 + i) = am_sw t (fun i => s * N (k * 3 + i)) i) →
      post (pr_, wo_, nI (rows + 1), nI t, un_, co_, fw_, wc_, wt_, wb_, li_, em_, hh_, ht_, hb_, hl_, lt_, lb_, br_, l3_, g3_, am_if N, a2, am_if Bd, a4, am_if lo, am_if hv, a7, am_if R', am_if (am_up Q rows (am_bd t lo hv (fun i => s * N (k * 3 + i)) (s * Bd k) 3)), a10, a11, a12, a13, a14, a15, a16, a17, a18, a19)) :
    wpX_addRow post (pr_, wo_, nI rows, nI t, un_, co_, fw_, wc_, wt_, wb_, li_, em_, hh_, ht_, hb_, hl_, lt_, lb_, br_, l3_, g3_, am_if N, a2, am_if Bd, a4, am_if lo, am_if hv, a7, am_if R, am_if Q, a10, a11, a12, a13, a14, a15, a16, a17, a18, a19) (nI k) (am_I s) := by
  unfold wpX_addRow
  refine ⟨pk_in k 5 hk, nm_r (e' := am_I (am_bd t lo hv (fun i => s * N (k * 3 + i)) (s * Bd k) 0)) ?_ ?_⟩
  · rw [nI_clamp (by omega)]
    exact am_Imul _ _
  · refine pk_loop (fun n i (R' : Nat → Int) => wX_addRow_12 post (nI k) (am_I s) pr_ wo_ (nI rows) (nI t) un_ co_ fw_ wc_ wt_ wb_ li_ em_ hh_ ht_ hb_ hl_ lt_ lb_ br_ l3_ g3_ n (am_I (am_bd t lo hv (fun i => s * N (k * 3 + i)) (s * Bd k) i)) (nI i) (am_if N) a2 (am_if Bd) a4 (am_if lo) (am_if hv) a7 (am_if R') (am_if Q) a10 a11 a12 a13 a14 a15 a16 a17 a18 a19) (fun i R' => (∀ j, j < rows * 3 → R' j = R j) ∧ (∀ i', i' < i → R' (rows * 3 + i') = am_sw t (fun i => s * N (k * 3 + i)) i')) 3 0 R (by omega) ⟨fun _ _ => rfl, fun i hi => absurd hi (by omega)⟩ ?_ ?_
    · rintro n R' ⟨h1, h2⟩
      refine pk_le 3 3 (fun _ => ⟨pk_in rows 16 hr, nm_r ?_ (nm_r (nI_1 rows) (h R' h1 h2))⟩) (fun z => absurd z (by omega))
      rw [nI_clamp (by omega), am_uI]
    · rintro n i R' hi ⟨h1, h2⟩ hn
      refine pk_le 3 i (fun z => absurd z (by omega)) (fun _ => ⟨pk_in (k * 3 + i) 15 (by omega) (am_ix3 k i), nm_r (e' := am_I (s * N (k * 3 + i))) ?_ ?_⟩)
      · rw [pk_cl (k * 3 + i) (am_ix3 k i)]
        exact am_Imul _ _
      · have step : ∀ (x : Int), x = am_sw t (fun i => s * N (k * 3 + i)) i → wX_addRow_12 post (nI k) (am_I s) pr_ wo_ (nI rows) (nI t) un_ co_ fw_ wc_ wt_ wb_ li_ em_ hh_ ht_ hb_ hl_ lt_ lb_ br_ l3_ g3_ n (am_I (am_bd t lo hv (fun i => s * N (k * 3 + i)) (s * Bd k) (i + 1))) (nI (i + 1)) (am_if N) a2 (am_if Bd) a4 (am_if lo) (am_if hv) a7 (am_if (am_up R' (rows * 3 + i) x)) (am_if Q) a10 a11 a12 a13 a14 a15 a16 a17 a18 a19 := by
          intro x hx
          refine hn _ ⟨fun j hj => ?_, fun i' hi' => ?_⟩
          · rw [am_upn _ _ (by omega)]; exact h1 j hj
          · by_cases e : i' = i
            · rw [e, am_ups]; exact hx
            · rw [am_upn _ _ (by omega)]; exact h2 i' (by omega)
        refine am_tub ht (by omega) (fun z => ?_) (fun z => ?_)
        · unfold wX_addRow_50
          refine br_t rfl ⟨pk_in i 3 (by omega), ?_⟩
          unfold wX_addRow_77
          refine nm_r (e' := am_I (am_bd t lo hv (fun i => s * N (k * 3 + i)) (s * Bd k) (i + 1))) ?_ (br_t rfl ⟨pk_in (rows * 3 + i) 48 (by omega) (am_ix3 rows i), nm_r ?_ (nm_r (nI_1 i) (step (s * N (k * 3 + i)) ?_))⟩)
          · rw [nI_clamp (by omega)]
            show am_I _ - am_I _ * am_I (lo i) = _
            rw [am_Imul, am_Isub]
            show _ = am_I (am_bd t lo hv (fun i => s * N (k * 3 + i)) (s * Bd k) i - s * N (k * 3 + i) * am_fr t lo hv i)
            unfold am_fr
            rw [if_pos z]
          · rw [pk_cl (rows * 3 + i) (am_ix3 rows i), am_uI]
          · unfold am_sw
            rw [if_pos z]
        · unfold wX_addRow_50
          refine br_f (by decide) ⟨pk_in i 3 (by omega), ?_⟩
          unfold wX_addRow_77
          refine nm_r (e' := am_I (am_bd t lo hv (fun i => s * N (k * 3 + i)) (s * Bd k) (i + 1))) ?_ (br_f (by decide) ⟨pk_in (rows * 3 + i) 48 (by omega) (am_ix3 rows i), nm_r ?_ (nm_r (nI_1 i) (step (-(s * N (k * 3 + i))) ?_))⟩)
          · rw [nI_clamp (by omega)]
            show am_I _ - am_I _ * am_I (hv i) = _
            rw [am_Imul, am_Isub]
            show _ = am_I (am_bd t lo hv (fun i => s * N (k * 3 + i)) (s * Bd k) i - s * N (k * 3 + i) * am_fr t lo hv i)
            unfold am_fr
            rw [if_neg (by omega)]
          · rw [pk_cl (rows * 3 + i) (am_ix3 rows i), am_Ineg, am_uI]
          · unfold am_sw
            rw [if_neg (by omega)]
end
end
section
section
variable {pr_ wo_ ro_ tu_ co_ fw_ wc_ li_ em_ hh_ hl_ br_ l3_ g3_ : Int32} {un_ wt_ wb_ ht_ hb_ lt_ lb_ : Int64} {a1 a2 a3 a4 a5 a6 a7 a8 a9 a11 a12 a18 a19 : Nat → Int32} {a10 a13 a14 a15 a16 a17 : Nat → Int64}
/-- the amounts' upper bounds as rows -/
theorem am_wr67 {post : St2 → Prop} {m : Nat} {lo hv R Q : Nat → Int} (hm : m ≤ 2)
    (h : ∀ R' Q', (∀ j, j < m * 3 → R' j = R j) → (∀ j, j < m → Q' j = Q j) → (∀ i j, i < 3 → j < 3 → R' ((m + i) * 3 + j) = if i = j then 1 else 0) → (∀ i, i < 3 → Q' (m + i) = hv i - lo i) →
      post (pr_, wo_, nI (m + 3), tu_, un_, co_, fw_, wc_, wt_, wb_, li_, em_, hh_, ht_, hb_, hl_, lt_, lb_, br_, l3_, g3_, a1, a2, a3, a4, am_if lo, am_if hv, a7, am_if R', am_if Q', a10, a11, a12, a13, a14, a15, a16, a17, a18, a19)) :
    ∃ n, wX_writeRows_67 post pr_ wo_ tu_ un_ co_ fw_ wc_ wt_ wb_ li_ em_ hh_ ht_ hb_ hl_ lt_ lb_ br_ l3_ g3_ n 0 (nI m) a1 a2 a3 a4 (am_if lo) (am_if hv) a7 (am_if R) (am_if Q) a10 a11 a12 a13 a14 a15 a16 a17 a18 a19 := by
  refine pk_loop (fun n i (s : (Nat → Int) × (Nat → Int)) => wX_writeRows_67 post pr_ wo_ tu_ un_ co_ fw_ wc_ wt_ wb_ li_ em_ hh_ ht_ hb_ hl_ lt_ lb_ br_ l3_ g3_ n (nI i) (nI (m + i)) a1 a2 a3 a4 (am_if lo) (am_if hv) a7 (am_if s.1) (am_if s.2) a10 a11 a12 a13 a14 a15 a16 a17 a18 a19) (fun i s => (∀ j, j < m * 3 → s.1 j = R j) ∧ (∀ j, j < m → s.2 j = Q j) ∧ (∀ i' j, i' < i → j < 3 → s.1 ((m + i') * 3 + j) = if i' = j then 1 else 0) ∧ (∀ i', i' < i → s.2 (m + i') = hv i' - lo i')) 3 0 (R, Q) (by omega) ⟨fun _ _ => rfl, fun _ _ => rfl, fun _ _ z => absurd z (by omega), fun _ z => absurd z (by omega)⟩ ?_ ?_
  · rintro n ⟨R', Q'⟩ ⟨h1, h2, h3, h4⟩
    exact pk_le 3 3 (fun _ => h R' Q' h1 h2 h3 h4) (fun z => absurd z (by omega))
  · rintro n i ⟨R', Q'⟩ hi ⟨h1, h2, h3, h4⟩ hn
    replace h1 : ∀ j, j < m * 3 → R' j = R j := h1
    replace h2 : ∀ j, j < m → Q' j = Q j := h2
    replace h3 : ∀ i' j, i' < i → j < 3 → R' ((m + i') * 3 + j) = if i' = j then 1 else 0 := h3
    replace h4 : ∀ i', i' < i → Q' (m + i') = hv i' - lo i' := h4
    refine pk_le 3 i (fun z => absurd z (by omega)) (fun _ => ?_)
    refine pk_loop (fun n2 j (R2 : Nat → Int) => wX_writeRows_74 post (wX_writeRows_67 post pr_ wo_ tu_ un_ co_ fw_ wc_ wt_ wb_ li_ em_ hh_ ht_ hb_ hl_ lt_ lb_ br_ l3_ g3_ n) (nI i) pr_ wo_ (nI (m + i)) tu_ un_ co_ fw_ wc_ wt_ wb_ li_ em_ hh_ ht_ hb_ hl_ lt_ lb_ br_ l3_ g3_ n2 (nI j) a1 a2 a3 a4 (am_if lo) (am_if hv) a7 (am_if R2) (am_if Q') a10 a11 a12 a13 a14 a15 a16 a17 a18 a19) (fun j R2 => (∀ j', j' < (m + i) * 3 → R2 j' = R' j') ∧ ∀ j', j' < j → R2 ((m + i) * 3 + j') = if i = j' then 1 else 0) 3 0 R' (by omega) ⟨fun _ _ => rfl, fun _ z => absurd z (by omega)⟩ ?_ ?_
    · rintro n2 R2 ⟨g1, g2⟩
      refine pk_le 3 3 (fun _ => ⟨pk_in i 3 hi, pk_in i 3 hi, pk_in (m + i) 16 (by omega), nm_r ?_ (nm_r (nI_1 (m + i)) (nm_r (nI_1 i) (hn (R2, am_up Q' (m + i) (hv i - lo i)) ⟨?_, ?_, ?_, ?_⟩)))⟩) (fun z => absurd z (by omega))
      · rw [nI_clamp (by omega), nI_clamp (by omega)]
        show upd (am_if Q') (m + i) (am_I (hv i) - am_I (lo i)) = _
        rw [am_Isub, am_uI]
      · intro j hj
        show R2 j = R j
        rw [g1 j (by omega), h1 j hj]
      · intro j hj
        show am_up Q' (m + i) _ j = Q j
        rw [am_upn _ _ (by omega), h2 j hj]
      · intro i' j hi' hj
        show R2 _ = _
        by_cases e : i' = i
        · rw [e]; exact g2 j hj
        · rw [g1 _ (by omega)]; exact h3 i' j (by omega) hj
      · intro i' hi'
        show am_up Q' (m + i) _ (m + i') = _
        by_cases e : i' = i
        · rw [e, am_ups]
        · rw [am_upn _ _ (by omega)]; exact h4 i' (by omega)
    · rintro n2 j R2 hj ⟨g1, g2⟩ hn2
      refine pk_le 3 j (fun z => absurd z (by omega)) (fun _ => ?_)
      have step : ∀ x : Int, x = (if i = j then 1 else 0) → wX_writeRows_74 post (wX_writeRows_67 post pr_ wo_ tu_ un_ co_ fw_ wc_ wt_ wb_ li_ em_ hh_ ht_ hb_ hl_ lt_ lb_ br_ l3_ g3_ n) (nI i) pr_ wo_ (nI (m + i)) tu_ un_ co_ fw_ wc_ wt_ wb_ li_ em_ hh_ ht_ hb_ hl_ lt_ lb_ br_ l3_ g3_ n2 (nI (j + 1)) a1 a2 a3 a4 (am_if lo) (am_if hv) a7 (am_if (am_up R2 ((m + i) * 3 + j) x)) (am_if Q') a10 a11 a12 a13 a14 a15 a16 a17 a18 a19 := by
        intro x hx
        refine hn2 _ ⟨fun j' hj' => ?_, fun j' hj' => ?_⟩
        · rw [am_upn _ _ (by omega)]; exact g1 j' hj'
        · by_cases e : j' = j
          · rw [e, am_ups]; exact hx
          · rw [am_upn _ _ (by omega)]; exact g2 j' (by omega)
      refine pk_eq i j (fun z => ⟨pk_in ((m + i) * 3 + j) 48 (by omega) (am_ix3 (m + i) j), nm_r ?_ (nm_r (nI_1 j) (step 1 (by rw [if_pos z])))⟩) (fun z => ⟨pk_in ((m + i) * 3 + j) 48 (by omega) (am_ix3 (m + i) j), nm_r ?_ (nm_r (nI_1 j) (step 0 (by rw [if_neg z])))⟩)
      · rw [pk_cl ((m + i) * 3 + j) (am_ix3 (m + i) j)]
        exact am_uI R2 ((m + i) * 3 + j) 1
      · rw [pk_cl ((m + i) * 3 + j) (am_ix3 (m + i) j)]
        exact am_uI R2 ((m + i) * 3 + j) 0
/-- the slots behind the first are empty -/
theorem am_wr7 {post : St2 → Prop} {P m k : Nat} {lo hv R Q : Nat → Int} (hP : P < 2) (hm : m ≤ 2) (hk : 1 ≤ k) (hk5 : k ≤ 5)
    (h : ∀ R' Q', (∀ j, j < m * 3 → R' j = R j) → (∀ j, j < m → Q' j = Q j) → (∀ i j, i < 3 → j < 3 → R' ((m + i) * 3 + j) = if i = j then 1 else 0) → (∀ i, i < 3 → Q' (m + i) = hv i - lo i) →
      post (nI P, wo_, nI (m + 3), tu_, un_, co_, fw_, wc_, wt_, wb_, li_, em_, hh_, ht_, hb_, hl_, lt_, lb_, br_, l3_, g3_, a1, a2, a3, a4, am_if lo, am_if hv, a7, am_if R', am_if Q', a10, a11, a12, a13, a14, a15, a16, a17, a18, a19)) :
    ∀ n, 6 ≤ n + k → wX_writeRows_7 post n (nI k) (nI P) wo_ (nI m) tu_ un_ co_ fw_ wc_ wt_ wb_ li_ em_ hh_ ht_ hb_ hl_ lt_ lb_ br_ l3_ g3_ a1 a2 a3 a4 (am_if lo) (am_if hv) a7 (am_if R) (am_if Q) a10 a11 a12 a13 a14 a15 a16 a17 a18 a19 := by
  intro n
  induction n generalizing k with
  | zero => intro z; omega
  | succ n ih =>
    intro hn
    refine pk_le 5 k (fun z => am_wr67 hm h) (fun z => ?_)
    refine am_has (by omega) (by omega) (fun _ => br_t rfl (nm_r (nI_1 k) (ih (by omega) (by omega) (by omega)))) (fun z2 => ?_)
    exfalso
    have : P / 2 ^ k = 0 := Nat.div_eq_of_lt (Nat.lt_of_lt_of_le hP (by have := Nat.pow_le_pow_right (show 0 < 2 by omega) hk; omega))
    rw [this] at z2
    omega
/-- which rows a condition of a kind gives: their number and the first one's sign -/
def am_mk (inc : Bool) (kd : Int) : Nat := if inc then (if kd = 1 then 2 else 1) else 0
def am_sgn (kd : Int) (r : Nat) : Int := if kd = 2 then -1 else if r = 0 then 1 else -1
theorem am_writeRows {post : St2 → Prop} {P t : Nat} {w : Int} {N Kd Bd lo hv R Q : Nat → Int} {inc : Bool} (hP : P < 2) (ht : t < 8) (hw : w = 0 ∨ w = -1) (hinc : inc = true ↔ (P = 1 ∧ w = -1)) (hkd : Kd 0 = 0 ∨ Kd 0 = 1 ∨ Kd 0 = 2)
    (h : ∀ R' Q', (∀ r i, r < am_mk inc (Kd 0) → i < 3 → R' (r * 3 + i) = am_sw t (fun i => am_sgn (Kd 0) r * N (0 * 3 + i)) i) → (∀ r, r < am_mk inc (Kd 0) → Q' r = am_bd t lo hv (fun i => am_sgn (Kd 0) r * N (0 * 3 + i)) (am_sgn (Kd 0) r * Bd 0) 3) →
      (∀ i j, i < 3 → j < 3 → R' ((am_mk inc (Kd 0) + i) * 3 + j) = if i = j then 1 else 0) → (∀ i, i < 3 → Q' (am_mk inc (Kd 0) + i) = hv i - lo i) →
      post (nI P, am_I w, nI (am_mk inc (Kd 0) + 3), nI t, un_, co_, fw_, wc_, wt_, wb_, li_, em_, hh_, ht_, hb_, hl_, lt_, lb_, br_, l3_, g3_, am_if N, am_if Kd, am_if Bd, a4, am_if lo, am_if hv, a7, am_if R', am_if Q', a10, a11, a12, a13, a14, a15, a16, a17, a18, a19)) :
    wpX_writeRows post (nI P, am_I w, ro_, nI t, un_, co_, fw_, wc_, wt_, wb_, li_, em_, hh_, ht_, hb_, hl_, lt_, lb_, br_, l3_, g3_, am_if N, am_if Kd, am_if Bd, a4, am_if lo, am_if hv, a7, am_if R, am_if Q, a10, a11, a12, a13, a14, a15, a16, a17, a18, a19) := by
  unfold wpX_writeRows
  refine ⟨6, ?_⟩
  refine pk_le 5 0 (fun z => absurd z (by omega)) (fun _ => ?_)
  have none : inc = false → ∀ n, 5 ≤ n → wX_writeRows_7 post n (nI (0 + 1)) (nI P) (am_I w) (nI 0) (nI t) un_ co_ fw_ wc_ wt_ wb_ li_ em_ hh_ ht_ hb_ hl_ lt_ lb_ br_ l3_ g3_ (am_if N) (am_if Kd) (am_if Bd) a4 (am_if lo) (am_if hv) a7 (am_if R) (am_if Q) a10 a11 a12 a13 a14 a15 a16 a17 a18 a19 := by
    intro hi n hn
    have em : am_mk inc (Kd 0) = 0 := by unfold am_mk; rw [hi]; rfl
    rw [em] at h
    refine am_wr7 hP (by omega) (by omega) (by omega) (fun R' Q' h1 h2 h3 h4 => h R' Q' (fun r i z => absurd z (by omega)) (fun r z => absurd z (by omega)) h3 h4) n (by omega)
  refine am_has (k := 0) (by omega) (by omega) (fun z => br_t rfl (nm_r (nI_1 0) (none ?_ 5 (by omega)))) (fun z => br_f (by decide) ?_)
  · rcases Bool.eq_false_or_eq_true inc with e | e
    · have := (hinc.mp e).1
      rw [this] at z
      exact absurd z (by decide)
    · exact e
  have hP1 : P = 1 := by
    rw [Nat.pow_zero, Nat.div_one] at z; omega
  refine am_ieq 0 w (by unfold am_V; omega) (by unfold am_V; omega) (fun z2 => nm_r (nI_1 0) (none ?_ 5 (by omega))) (fun z2 => ⟨pk_in 0 5 (by omega), ?_⟩)
  · rcases Bool.eq_false_or_eq_true inc with e | e
    · have := (hinc.mp e).2
      omega
    · exact e
  have hI : inc = true := hinc.mpr ⟨hP1, by omega⟩
  subst hI
  have k2 : ∀ (m : Nat) (R2 Q2 : Nat → Int), m ≤ 2 → am_mk true (Kd 0) = m → (∀ r i, r < m → i < 3 → R2 (r * 3 + i) = am_sw t (fun i => am_sgn (Kd 0) r * N (0 * 3 + i)) i) → (∀ r, r < m → Q2 r = am_bd t lo hv (fun i => am_sgn (Kd 0) r * N (0 * 3 + i)) (am_sgn (Kd 0) r * Bd 0) 3) →
      wX_writeRows_7 post 5 (nI (0 + 1)) (nI P) (am_I w) (nI m) (nI t) un_ co_ fw_ wc_ wt_ wb_ li_ em_ hh_ ht_ hb_ hl_ lt_ lb_ br_ l3_ g3_ (am_if N) (am_if Kd) (am_if Bd) a4 (am_if lo) (am_if hv) a7 (am_if R2) (am_if Q2) a10 a11 a12 a13 a14 a15 a16 a17 a18 a19 := by
    intro m R2 Q2 hm em g1 g2
    rw [em] at h
    refine am_wr7 hP hm (by omega) (by omega) (fun R' Q' h1 h2 h3 h4 => h R' Q' (fun r i hr hi => ?_) (fun r hr => ?_) h3 h4) 5 (by omega)
    · rw [h1 _ (by omega)]; exact g1 r i hr hi
    · rw [h2 _ hr]; exact g2 r hr
  have bK : am_V (Kd 0) := by unfold am_V; omega
  have b2 : am_V 2 := by unfold am_V; omega
  have b0 : am_V 0 := by unfold am_V; omega
  refine am_ieq (Kd 0) 2 bK b2 (fun z3 => ?_) (fun z3 => ?_)
  · -- at least
    unfold wX_writeRows_44
    refine ⟨pk_in 0 5 (by omega), am_ieq (Kd 0) 0 bK b0 (fun z4 => absurd z4 (by omega)) (fun z4 => ?_)⟩
    refine am_addRow (k := 0) (rows := 0) (s := -1) ht (by omega) (by omega) (Or.inr rfl) (fun R' h1 h2 => nm_r (nI_1 0) (k2 1 _ _ (by omega) (by unfold am_mk; rw [if_pos rfl, if_neg (by omega)]) ?_ ?_))
    · intro r i hr hi
      have e : r = 0 := by omega
      subst e
      rw [h2 i hi]
      unfold am_sgn
      rw [if_pos z3]
    · intro r hr
      have e : r = 0 := by omega
      subst e
      rw [am_ups]
      unfold am_sgn
      rw [if_pos z3]
  · refine am_addRow (k := 0) (rows := 0) (s := 1) ht (by omega) (by omega) (Or.inl rfl) (fun R' h1 h2 => ?_)
    unfold wX_writeRows_44
    refine ⟨pk_in 0 5 (by omega), am_ieq (Kd 0) 0 bK b0 (fun z4 => nm_r (nI_1 0) (k2 1 _ _ (by omega) (by unfold am_mk; rw [if_pos rfl, if_neg (by omega)]) ?_ ?_)) (fun z4 => ?_)⟩
    · intro r i hr hi
      have e : r = 0 := by omega
      subst e
      rw [h2 i hi]
      unfold am_sgn
      rw [if_neg z3, if_pos rfl]
    · intro r hr
      have e : r = 0 := by omega
      subst e
      rw [am_ups]
      unfold am_sgn
      rw [if_neg z3, if_pos rfl]
    · refine am_addRow (k := 0) (rows := 1) (s := -1) ht (by omega) (by omega) (Or.inr rfl) (fun R2 h3 h4 => nm_r (nI_1 0) (k2 2 _ _ (by omega) (by unfold am_mk; rw [if_pos rfl, if_pos (by omega)]) ?_ ?_))
      · intro r i hr hi
        have e : r = 0 ∨ r = 1 := by omega
        rcases e with e | e
        · subst e
          rw [h3 _ (by omega), h2 i hi]
          unfold am_sgn
          rw [if_neg z3, if_pos rfl]
        · subst e
          rw [h4 i hi]
          unfold am_sgn
          rw [if_neg z3, if_neg (by omega)]
      · intro r hr
        have e : r = 0 ∨ r = 1 := by omega
        rcases e with e | e
        · subst e
          rw [am_upn _ _ (by omega), am_ups]
          unfold am_sgn
          rw [if_neg z3, if_pos rfl]
        · subst e
          rw [am_ups]
          unfold am_sgn
          rw [if_neg z3, if_neg (by omega)]
end
end
section
theorem am_nbt {n : Nat} (h : n < 128) : (nI n).toInt8.toInt32 = nI n := by
  rw [am_nI, am_byte (by omega) (by omega)]
/-- the worth's numbers: what is asked, then one amount each -/
def am_nw (As : Nat → Int) (w i : Nat) : Int := if w = 0 then As i else if w = i + 1 then -1 else 0
section
variable {pr_ wo_ ro_ tu_ co_ fw_ wc_ li_ em_ hh_ hl_ br_ l3_ g3_ : Int32} {un_ wt_ wb_ ht_ hb_ lt_ lb_ : Int64} {a1 a2 a3 a4 a5 a6 a7 a8 a9 a11 a12 a18 a19 : Nat → Int32} {a10 a13 a14 a15 a16 a17 : Nat → Int64}
theorem am_su279 {post : St2 → Prop} {cn0 : Nat → Nat} (h : ∀ cn, (∀ c, c < 3 → cn c = c) → cn 3 = cn0 3 → post (pr_, wo_, ro_, tu_, un_, co_, fw_, wc_, wt_, wb_, li_, em_, hh_, ht_, hb_, hl_, lt_, lb_, br_, l3_, g3_, a1, a2, a3, a4, a5, a6, a7, a8, a9, a10, a11, am_nf cn, a13, a14, a15, a16, a17, a18, a19)) : ∃ n, wX_setUp_279 post pr_ wo_ ro_ tu_ un_ co_ fw_ wc_ wt_ wb_ li_ em_ hh_ ht_ hb_ hl_ lt_ lb_ br_ l3_ g3_ n 0 a1 a2 a3 a4 a5 a6 a7 a8 a9 a10 a11 (am_nf cn0) a13 a14 a15 a16 a17 a18 a19 := by
  refine pk_loop (fun n i (cn : Nat → Nat) => wX_setUp_279 post pr_ wo_ ro_ tu_ un_ co_ fw_ wc_ wt_ wb_ li_ em_ hh_ ht_ hb_ hl_ lt_ lb_ br_ l3_ g3_ n (nI i) a1 a2 a3 a4 a5 a6 a7 a8 a9 a10 a11 (am_nf cn) a13 a14 a15 a16 a17 a18 a19) (fun i cn => (∀ c, c < i → cn c = c) ∧ cn 3 = cn0 3) 3 0 cn0 (by omega) ⟨fun _ z => absurd z (by omega), rfl⟩ ?_ ?_
  · rintro n cn ⟨h1, h2⟩
    exact pk_le 3 3 (fun _ => h cn h1 h2) (fun z => absurd z (by omega))
  · rintro n i cn hi ⟨h1, h2⟩ hn
    refine pk_le 3 i (fun z => absurd z (by omega)) (fun _ => ⟨pk_in i 4 (by omega), nm_r ?_ (nm_r (nI_1 i) (hn (am_up cn i i) ⟨fun c hc => ?_, ?_⟩))⟩)
    · rw [nI_clamp (by omega), am_nbt (by omega), am_uN]
    · by_cases e : c = i
      · rw [e, am_ups]
      · rw [am_upn _ _ e]; exact h1 c (by omega)
    · rw [am_upn _ _ (by omega)]; exact h2
/-- one row of worth -/
theorem am_su149 {post : St2 → Prop} {J : Int32 → (Nat → Int32) → (Nat → Int32) → (Nat → Int32) → (Nat → Int32) → (Nat → Int32) → (Nat → Int32) → (Nat → Int32) → (Nat → Int32) → (Nat → Int32) → (Nat → Int64) → (Nat → Int32) → (Nat → Int32) → (Nat → Int64) → (Nat → Int64) → (Nat → Int64) → (Nat → Int64) → (Nat → Int64) → (Nat → Int32) → (Nat → Int32) → Prop}
    {rows t w : Nat} {lo hv As T : Nat → Int} (ht : t < 8) (hw : w < 4) (hr : rows ≤ 5) (hA : ∀ i, i < 3 → (As i).natAbs ≤ 7) (hlo : ∀ i, i < 3 → (lo i).natAbs ≤ 20) (hhv : ∀ i, i < 3 → (hv i).natAbs ≤ 20) (hT4 : T ((rows + w) * 5 + 4) = 0)
    (h : ∀ T', (∀ j, (∀ c, c < 5 → c ≠ 3 → j ≠ (rows + w) * 5 + c) → T' j = T j) → (∀ i, i < 3 → T' ((rows + w) * 5 + i) = -(am_sw t (am_nw As w) i)) → T' ((rows + w) * 5 + 4) = -(am_bd t lo hv (am_nw As w) 0 3) → J (nI (w + 1)) a1 a2 a3 a4 (am_if lo) (am_if hv) (am_if As) a8 a9 (am_lf T') a11 a12 a13 a14 a15 a16 a17 a18 a19) :
    ∃ n, wX_setUp_149 post J (nI w) (nI (rows + w)) pr_ wo_ (nI rows) (nI t) un_ co_ (nI rows) wc_ wt_ wb_ li_ em_ hh_ ht_ hb_ hl_ lt_ lb_ br_ l3_ g3_ n 0 a1 a2 a3 a4 (am_if lo) (am_if hv) (am_if As) a8 a9 (am_lf T) a11 a12 a13 a14 a15 a16 a17 a18 a19 := by
  refine pk_loop (fun n i (T' : Nat → Int) => wX_setUp_149 post J (nI w) (nI (rows + w)) pr_ wo_ (nI rows) (nI t) un_ co_ (nI rows) wc_ wt_ wb_ li_ em_ hh_ ht_ hb_ hl_ lt_ lb_ br_ l3_ g3_ n (nI i) a1 a2 a3 a4 (am_if lo) (am_if hv) (am_if As) a8 a9 (am_lf T') a11 a12 a13 a14 a15 a16 a17 a18 a19) (fun i T' => (∀ j, (∀ c, c < 5 → c ≠ 3 → j ≠ (rows + w) * 5 + c) → T' j = T j) ∧ (∀ i', i' < i → T' ((rows + w) * 5 + i') = -(am_sw t (am_nw As w) i')) ∧ T' ((rows + w) * 5 + 4) = -(am_bd t lo hv (am_nw As w) 0 i)) 3 0 T (by omega) ⟨fun _ _ => rfl, fun _ z => absurd z (by omega), by rw [hT4]; rfl⟩ ?_ ?_
  · rintro n T' ⟨h1, h2, h3⟩
    exact pk_le 3 3 (fun _ => nm_r (nI_1 w) (h T' h1 h2 h3)) (fun z => absurd z (by omega))
  · rintro n i T' hi ⟨h1, h2, h3⟩ hn
    refine pk_le 3 i (fun z => absurd z (by omega)) (fun _ => ?_)
    have bn : (am_nw As w i).natAbs ≤ 7 := by
      unfold am_nw
      have := hA i hi
      split
      · exact this
      · split <;> omega
    have bV : am_V (am_nw As w i) := by unfold am_V; omega
    have bVn : am_V (-(am_nw As w i)) := by unfold am_V; omega
    -- the two stores
    have put : ∀ (x f : Int), x = -(am_sw t (am_nw As w) i) → f = am_fr t lo hv i → f.natAbs ≤ 20 → ∀ (z : Int64), z = am_L x → wX_setUp_245 post J (wX_setUp_149 post J (nI w) (nI (rows + w)) pr_ wo_ (nI rows) (nI t) un_ co_ (nI rows) wc_ wt_ wb_ li_ em_ hh_ ht_ hb_ hl_ lt_ lb_ br_ l3_ g3_ n) (nI w) (nI (rows + w)) (nI i) (am_I (am_nw As w i)) (am_I f) z (nI (rows + w) * 5 + nI i) pr_ wo_ (nI rows) (nI t) un_ co_ (nI rows) wc_ wt_ wb_ li_ em_ hh_ ht_ hb_ hl_ lt_ lb_ br_ l3_ g3_ a1 a2 a3 a4 (am_if lo) (am_if hv) (am_if As) a8 a9 (am_lf T') a11 a12 a13 a14 a15 a16 a17 a18 a19 := by
      intro x f hx hf hf20 z hz
      subst hz
      have bm := am_bm bn hf20
      have bmV : am_V (am_nw As w i * f) := by unfold am_V; omega
      unfold wX_setUp_245
      refine ⟨pk_in ((rows + w) * 5 + i) 105 (by omega) (am_ix5 (rows + w) i), nm_r (e' := am_lf (am_up T' ((rows + w) * 5 + i) x)) ?_ ⟨pk_in ((rows + w) * 5 + 4) 105 (by omega) (am_ix5 (rows + w) 4), pk_in ((rows + w) * 5 + 4) 105 (by omega) (am_ix5 (rows + w) 4), nm_r (e' := am_lf (am_up (am_up T' ((rows + w) * 5 + i) x) ((rows + w) * 5 + 4) (-(am_bd t lo hv (am_nw As w) 0 (i + 1))))) ?_ (nm_r (nI_1 i) (hn _ ⟨fun j hj => ?_, fun i' hi' => ?_, ?_⟩))⟩⟩
      · rw [pk_cl ((rows + w) * 5 + i) (am_ix5 (rows + w) i), am_uL]
      · rw [am_k4 (r := (rows + w)) (by omega), am_Imul, am_IL bmV]
        show vp_updL _ _ (am_L (am_up T' ((rows + w) * 5 + i) x ((rows + w) * 5 + 4)) + am_L (am_nw As w i * f)) = _
        rw [am_upn _ _ (by omega), h3, am_Ladd, am_uL]
        show _ = am_lf (am_up (am_up T' ((rows + w) * 5 + i) x) ((rows + w) * 5 + 4) (-(am_bd t lo hv (am_nw As w) 0 i - am_nw As w i * am_fr t lo hv i)))
        rw [hf]
        congr 2
        omega
      · have e1 := hj i (by omega) (by omega)
        have e2 := hj 4 (by omega) (by omega)
        rw [am_upn _ _ e2, am_upn _ _ e1]; exact h1 j hj
      · rw [am_upn _ _ (by omega)]
        by_cases e : i' = i
        · rw [e, am_ups]; exact hx
        · rw [am_upn _ _ (by omega)]; exact h2 i' (by omega)
      · rw [am_ups]
    have mid0 : t / 2 ^ i % 2 = 0 → wX_setUp_197 post J (wX_setUp_149 post J (nI w) (nI (rows + w)) pr_ wo_ (nI rows) (nI t) un_ co_ (nI rows) wc_ wt_ wb_ li_ em_ hh_ ht_ hb_ hl_ lt_ lb_ br_ l3_ g3_ n) (nI w) (nI (rows + w)) (nI i) 0 (am_I (am_nw As w i)) pr_ wo_ (nI rows) (nI t) un_ co_ (nI rows) wc_ wt_ wb_ li_ em_ hh_ ht_ hb_ hl_ lt_ lb_ br_ l3_ g3_ a1 a2 a3 a4 (am_if lo) (am_if hv) (am_if As) a8 a9 (am_lf T') a11 a12 a13 a14 a15 a16 a17 a18 a19 := by
      intro z
      unfold wX_setUp_197 wX_setUp_219
      rw [nI_clamp (show i < 2 ^ 31 by omega)]
      refine br_t rfl ⟨pk_in i 3 (by omega), br_t rfl (put (-(am_nw As w i)) (lo i) ?_ ?_ (hlo i hi) _ ?_)⟩
      · unfold am_sw; rw [if_pos z]
      · unfold am_fr; rw [if_pos z]
      · rw [am_Ineg, am_IL bVn]
    have mid1 : t / 2 ^ i % 2 = 1 → wX_setUp_197 post J (wX_setUp_149 post J (nI w) (nI (rows + w)) pr_ wo_ (nI rows) (nI t) un_ co_ (nI rows) wc_ wt_ wb_ li_ em_ hh_ ht_ hb_ hl_ lt_ lb_ br_ l3_ g3_ n) (nI w) (nI (rows + w)) (nI i) 1 (am_I (am_nw As w i)) pr_ wo_ (nI rows) (nI t) un_ co_ (nI rows) wc_ wt_ wb_ li_ em_ hh_ ht_ hb_ hl_ lt_ lb_ br_ l3_ g3_ a1 a2 a3 a4 (am_if lo) (am_if hv) (am_if As) a8 a9 (am_lf T') a11 a12 a13 a14 a15 a16 a17 a18 a19 := by
      intro z
      unfold wX_setUp_197 wX_setUp_219
      rw [nI_clamp (show i < 2 ^ 31 by omega)]
      refine br_f (by decide) ⟨pk_in i 3 (by omega), br_f (by decide) (put (am_nw As w i) (hv i) ?_ ?_ (hhv i hi) _ ?_)⟩
      · unfold am_sw; rw [if_neg (by omega)]; omega
      · unfold am_fr; rw [if_neg (by omega)]
      · rw [am_IL bV]
    have num : ∀ zz : Int32, wX_setUp_197 post J (wX_setUp_149 post J (nI w) (nI (rows + w)) pr_ wo_ (nI rows) (nI t) un_ co_ (nI rows) wc_ wt_ wb_ li_ em_ hh_ ht_ hb_ hl_ lt_ lb_ br_ l3_ g3_ n) (nI w) (nI (rows + w)) (nI i) zz (am_I (am_nw As w i)) pr_ wo_ (nI rows) (nI t) un_ co_ (nI rows) wc_ wt_ wb_ li_ em_ hh_ ht_ hb_ hl_ lt_ lb_ br_ l3_ g3_ a1 a2 a3 a4 (am_if lo) (am_if hv) (am_if As) a8 a9 (am_lf T') a11 a12 a13 a14 a15 a16 a17 a18 a19 → wX_setUp_170 post J (wX_setUp_149 post J (nI w) (nI (rows + w)) pr_ wo_ (nI rows) (nI t) un_ co_ (nI rows) wc_ wt_ wb_ li_ em_ hh_ ht_ hb_ hl_ lt_ lb_ br_ l3_ g3_ n) (nI w) (nI (rows + w)) (nI i) zz pr_ wo_ (nI rows) (nI t) un_ co_ (nI rows) wc_ wt_ wb_ li_ em_ hh_ ht_ hb_ hl_ lt_ lb_ br_ l3_ g3_ a1 a2 a3 a4 (am_if lo) (am_if hv) (am_if As) a8 a9 (am_lf T') a11 a12 a13 a14 a15 a16 a17 a18 a19 := by
      intro zz hz
      unfold wX_setUp_170
      refine pk_eq w 0 (fun e => ⟨pk_in i 3 (by omega), ?_⟩) (fun e => pk_eq (w - 1) i (fun e2 => ?_) (fun e2 => ?_) ?_)
      · rw [nI_clamp (by omega)]
        have : am_nw As w i = As i := by unfold am_nw; rw [if_pos e]
        rw [this] at hz
        exact hz
      · have : am_nw As w i = -1 := by unfold am_nw; rw [if_neg e, if_pos (by omega)]
        rw [this] at hz
        exact hz
      · have : am_nw As w i = 0 := by unfold am_nw; rw [if_neg e, if_neg (by omega)]
        rw [this] at hz
        exact hz
      · have := nI_pred (w - 1)
        rw [show w - 1 + 1 = w by omega] at this
        exact this
    exact am_tub ht (by omega) (fun z => num 0 (mid0 z)) (fun z => num 1 (mid1 z))
theorem am_su113 {post : St2 → Prop} {rows t : Nat} {lo hv As T : Nat → Int} {cn0 : Nat → Nat} (ht : t < 8) (hr : rows ≤ 5) (hA : ∀ i, i < 3 → (As i).natAbs ≤ 7) (hlo : ∀ i, i < 3 → (lo i).natAbs ≤ 20) (hhv : ∀ i, i < 3 → (hv i).natAbs ≤ 20)
    (h : ∀ T' cn, (∀ j, j < rows * 5 → T' j = T j) → (∀ w i, w < 4 → i < 3 → T' ((rows + w) * 5 + i) = -(am_sw t (am_nw As w) i)) → (∀ w, w < 4 → T' ((rows + w) * 5 + 4) = -(am_bd t lo hv (am_nw As w) 0 3)) → (∀ w, w < 4 → T' ((rows + w) * 5 + 3) = 0) → (∀ c, c < 3 → cn c = c) → cn 3 = cn0 3 →
      post (pr_, wo_, nI rows, nI t, un_, co_, nI rows, wc_, wt_, wb_, li_, em_, hh_, ht_, hb_, hl_, lt_, lb_, br_, l3_, g3_, a1, a2, a3, a4, am_if lo, am_if hv, am_if As, a8, a9, am_lf T', a11, am_nf cn, a13, a14, a15, a16, a17, a18, a19)) :
    ∃ n, wX_setUp_113 post pr_ wo_ (nI rows) (nI t) un_ co_ (nI rows) wc_ wt_ wb_ li_ em_ hh_ ht_ hb_ hl_ lt_ lb_ br_ l3_ g3_ n 0 a1 a2 a3 a4 (am_if lo) (am_if hv) (am_if As) a8 a9 (am_lf T) a11 (am_nf cn0) a13 a14 a15 a16 a17 a18 a19 := by
  refine pk_loop (fun n w (T' : Nat → Int) => wX_setUp_113 post pr_ wo_ (nI rows) (nI t) un_ co_ (nI rows) wc_ wt_ wb_ li_ em_ hh_ ht_ hb_ hl_ lt_ lb_ br_ l3_ g3_ n (nI w) a1 a2 a3 a4 (am_if lo) (am_if hv) (am_if As) a8 a9 (am_lf T') a11 (am_nf cn0) a13 a14 a15 a16 a17 a18 a19) (fun w T' => (∀ j, j < rows * 5 → T' j = T j) ∧ (∀ w' i, w' < w → i < 3 → T' ((rows + w') * 5 + i) = -(am_sw t (am_nw As w') i)) ∧ (∀ w', w' < w → T' ((rows + w') * 5 + 4) = -(am_bd t lo hv (am_nw As w') 0 3)) ∧ (∀ w', w' < w → T' ((rows + w') * 5 + 3) = 0)) 4 0 T (by omega) ⟨fun _ _ => rfl, fun _ _ z => absurd z (by omega), fun _ z => absurd z (by omega), fun _ z => absurd z (by omega)⟩ ?_ ?_
  · rintro n T' ⟨h1, h2, h3, h4⟩
    exact pk_le 4 4 (fun _ => am_su279 (fun cn g1 g2 => h T' cn h1 h2 h3 h4 g1 g2)) (fun z => absurd z (by omega))
  · rintro n w T' hw ⟨h1, h2, h3, h4⟩ hn
    refine pk_le 4 w (fun z => absurd z (by omega)) (fun _ => nm_r (nI_add rows w) ⟨pk_in ((rows + w) * 5 + 3) 105 (by omega) (am_ix5 (rows + w) 3), nm_r (e' := am_lf (am_up T' ((rows + w) * 5 + 3) 0)) ?_ ⟨pk_in ((rows + w) * 5 + 4) 105 (by omega) (am_ix5 (rows + w) 4), nm_r (e' := am_lf (am_up (am_up T' ((rows + w) * 5 + 3) 0) ((rows + w) * 5 + 4) 0)) ?_ ?_⟩⟩)
    · rw [am_k3 (r := (rows + w)) (by omega)]
      exact am_uL _ _ 0
    · rw [am_k4 (r := (rows + w)) (by omega)]
      exact am_uL _ _ 0
    · refine am_su149 ht hw hr hA hlo hhv (am_ups _ _ _) (fun T2 g1 g2 g3 => hn T2 ⟨fun j hj => ?_, fun w' i hw' hi => ?_, fun w' hw' => ?_, fun w' hw' => ?_⟩)
      · rw [g1 j (fun c hc hc3 => by omega), am_upn _ _ (by omega), am_upn _ _ (by omega)]; exact h1 j hj
      · by_cases e : w' = w
        · rw [e]; exact g2 i hi
        · rw [g1 _ (fun c hc hc3 => by omega), am_upn _ _ (by omega), am_upn _ _ (by omega)]; exact h2 w' i (by omega) hi
      · by_cases e : w' = w
        · rw [e]; exact g3
        · rw [g1 _ (fun c hc hc3 => by omega), am_upn _ _ (by omega), am_upn _ _ (by omega)]; exact h3 w' (by omega)
      · by_cases e : w' = w
        · rw [e, g1 _ (fun c hc hc3 => by omega), am_upn _ _ (by omega), am_ups]
        · rw [g1 _ (fun c hc hc3 => by omega), am_upn _ _ (by omega), am_upn _ _ (by omega)]; exact h4 w' (by omega)
theorem am_setUp {post : St2 → Prop} {rows t : Nat} {lo hv As R Q T0 : Nat → Int} {rn0 cn0 : Nat → Nat} (ht : t < 8) (hr : rows ≤ 5) (hA : ∀ i, i < 3 → (As i).natAbs ≤ 7) (hlo : ∀ i, i < 3 → (lo i).natAbs ≤ 20) (hhv : ∀ i, i < 3 → (hv i).natAbs ≤ 20)
    (hR : ∀ r i, r < rows → i < 3 → am_V (R (r * 3 + i))) (hQ : ∀ r, r < rows → am_V (Q r))
    (h : ∀ T rn cn, (∀ r i, r < rows → i < 3 → T (r * 5 + i) = R (r * 3 + i)) → (∀ r, r < rows → T (r * 5 + 4) = Q r) → (∀ r, r < rows + 4 → T (r * 5 + 3) = 0) → (∀ w i, w < 4 → i < 3 → T ((rows + w) * 5 + i) = -(am_sw t (am_nw As w) i)) → (∀ w, w < 4 → T ((rows + w) * 5 + 4) = -(am_bd t lo hv (am_nw As w) 0 3)) → (∀ r, r < rows → rn r = 3 + r) → (∀ c, c < 3 → cn c = c) → cn 3 = cn0 3 →
      post (pr_, wo_, nI rows, nI t, am_L 1, nI 3, nI rows, nI 4, wt_, wb_, li_, em_, hh_, ht_, hb_, hl_, lt_, lb_, br_, l3_, g3_, a1, a2, a3, a4, am_if lo, am_if hv, am_if As, am_if R, am_if Q, am_lf T, am_nf rn, am_nf cn, a13, a14, a15, a16, a17, a18, a19)) :
    wpX_setUp post (pr_, wo_, nI rows, nI t, un_, co_, fw_, wc_, wt_, wb_, li_, em_, hh_, ht_, hb_, hl_, lt_, lb_, br_, l3_, g3_, a1, a2, a3, a4, am_if lo, am_if hv, am_if As, am_if R, am_if Q, am_lf T0, am_nf rn0, am_nf cn0, a13, a14, a15, a16, a17, a18, a19) := by
  unfold wpX_setUp
  refine pk_loop (fun n r (s : (Nat → Int) × (Nat → Nat)) => wX_setUp_25 post pr_ wo_ (nI rows) (nI t) (am_L 1) (nI 3) (nI rows) (nI 4) wt_ wb_ li_ em_ hh_ ht_ hb_ hl_ lt_ lb_ br_ l3_ g3_ n (nI r) a1 a2 a3 a4 (am_if lo) (am_if hv) (am_if As) (am_if R) (am_if Q) (am_lf s.1) (am_nf s.2) (am_nf cn0) a13 a14 a15 a16 a17 a18 a19) (fun r s => (∀ r' i, r' < r → i < 3 → s.1 (r' * 5 + i) = R (r' * 3 + i)) ∧ (∀ r', r' < r → s.1 (r' * 5 + 4) = Q r') ∧ (∀ r', r' < r → s.1 (r' * 5 + 3) = 0) ∧ (∀ r', r' < r → s.2 r' = 3 + r')) rows 0 (T0, rn0) (by omega) ⟨fun _ _ z => absurd z (by omega), fun _ z => absurd z (by omega), fun _ z => absurd z (by omega), fun _ z => absurd z (by omega)⟩ ?_ ?_
  · rintro n ⟨T, rn⟩ ⟨h1, h2, h3, h4⟩
    replace h1 : ∀ r' i, r' < rows → i < 3 → T (r' * 5 + i) = R (r' * 3 + i) := h1
    replace h2 : ∀ r', r' < rows → T (r' * 5 + 4) = Q r' := h2
    replace h3 : ∀ r', r' < rows → T (r' * 5 + 3) = 0 := h3
    replace h4 : ∀ r', r' < rows → rn r' = 3 + r' := h4
    refine pk_le rows rows (fun _ => am_su113 ht hr hA hlo hhv (fun T' cn g1 g2 g3 g4 g5 g6 => h T' rn cn (fun r i hr hi => ?_) (fun r hr => ?_) (fun r hr => ?_) g2 g3 h4 g5 g6)) (fun z => absurd z (by omega))
    · rw [g1 _ (by omega)]; exact h1 r i hr hi
    · rw [g1 _ (by omega)]; exact h2 r hr
    · by_cases e : r < rows
      · rw [g1 _ (by omega)]; exact h3 r e
      · have := g4 (r - rows) (by omega)
        rw [show rows + (r - rows) = r by omega] at this
        exact this
  · rintro n r ⟨T, rn⟩ hrr ⟨h1, h2, h3, h4⟩ hn
    replace h1 : ∀ r' i, r' < r → i < 3 → T (r' * 5 + i) = R (r' * 3 + i) := h1
    replace h2 : ∀ r', r' < r → T (r' * 5 + 4) = Q r' := h2
    replace h3 : ∀ r', r' < r → T (r' * 5 + 3) = 0 := h3
    replace h4 : ∀ r', r' < r → rn r' = 3 + r' := h4
    refine pk_le rows r (fun z => absurd z (by omega)) (fun _ => ⟨pk_in r 16 (by omega), nm_r (e' := am_nf (am_up rn r (3 + r))) ?_ ?_⟩)
    · rw [nI_clamp (by omega), show (3 : Int32) = nI 3 from rfl, nI_add, am_nbt (by omega), am_uN]
    · refine pk_loop (fun n2 i (T2 : Nat → Int) => wX_setUp_45 post (wX_setUp_25 post pr_ wo_ (nI rows) (nI t) (am_L 1) (nI 3) (nI rows) (nI 4) wt_ wb_ li_ em_ hh_ ht_ hb_ hl_ lt_ lb_ br_ l3_ g3_ n) (nI r) pr_ wo_ (nI rows) (nI t) (am_L 1) (nI 3) (nI rows) (nI 4) wt_ wb_ li_ em_ hh_ ht_ hb_ hl_ lt_ lb_ br_ l3_ g3_ n2 (nI i) a1 a2 a3 a4 (am_if lo) (am_if hv) (am_if As) (am_if R) (am_if Q) (am_lf T2) (am_nf (am_up rn r (3 + r))) (am_nf cn0) a13 a14 a15 a16 a17 a18 a19) (fun i T2 => (∀ j, j < r * 5 → T2 j = T j) ∧ ∀ i', i' < i → T2 (r * 5 + i') = R (r * 3 + i')) 3 0 T (by omega) ⟨fun _ _ => rfl, fun _ z => absurd z (by omega)⟩ ?_ ?_
      · rintro n2 T2 ⟨g1, g2⟩
        refine pk_le 3 3 (fun _ => ⟨pk_in (r * 5 + 3) 105 (by omega) (am_ix5 r 3), nm_r (e' := am_lf (am_up T2 (r * 5 + 3) 0)) ?_ ⟨pk_in r 16 (by omega), pk_in (r * 5 + 4) 105 (by omega) (am_ix5 r 4), nm_r (e' := am_lf (am_up (am_up T2 (r * 5 + 3) 0) (r * 5 + 4) (Q r))) ?_ (nm_r (nI_1 r) (hn (am_up (am_up T2 (r * 5 + 3) 0) (r * 5 + 4) (Q r), am_up rn r (3 + r)) ⟨fun r' i hr' hi => ?_, fun r' hr' => ?_, fun r' hr' => ?_, fun r' hr' => ?_⟩))⟩⟩) (fun z => absurd z (by omega))
        · rw [am_k3 (r := r) (by omega)]
          exact am_uL _ _ 0
        · rw [am_k4 (r := r) (by omega), nI_clamp (by omega)]
          show vp_updL _ _ (am_I (Q r)).toInt64 = _
          rw [am_IL (hQ r hrr), am_uL]
        · show am_up (am_up T2 (r * 5 + 3) 0) (r * 5 + 4) (Q r) (r' * 5 + i) = _
          rw [am_upn _ _ (by omega), am_upn _ _ (by omega)]
          by_cases e : r' = r
          · rw [e]; exact g2 i hi
          · rw [g1 _ (by omega)]; exact h1 r' i (by omega) hi
        · show am_up (am_up T2 (r * 5 + 3) 0) (r * 5 + 4) (Q r) (r' * 5 + 4) = _
          by_cases e : r' = r
          · rw [e, am_ups]
          · rw [am_upn _ _ (by omega), am_upn _ _ (by omega), g1 _ (by omega)]; exact h2 r' (by omega)
        · show am_up (am_up T2 (r * 5 + 3) 0) (r * 5 + 4) (Q r) (r' * 5 + 3) = _
          by_cases e : r' = r
          · rw [e, am_upn _ _ (by omega), am_ups]
          · rw [am_upn _ _ (by omega), am_upn _ _ (by omega), g1 _ (by omega)]; exact h3 r' (by omega)
        · show am_up rn r (3 + r) r' = _
          by_cases e : r' = r
          · rw [e, am_ups]
          · rw [am_upn _ _ e]; exact h4 r' (by omega)
      · rintro n2 i T2 hi ⟨g1, g2⟩ hn2
        refine pk_le 3 i (fun z => absurd z (by omega)) (fun _ => ⟨pk_in (r * 3 + i) 48 (by omega) (am_ix3 r i), pk_in (r * 5 + i) 105 (by omega) (am_ix5 r i), nm_r (e' := am_lf (am_up T2 (r * 5 + i) (R (r * 3 + i)))) ?_ (nm_r (nI_1 i) (hn2 _ ⟨fun j hj => ?_, fun i' hi' => ?_⟩))⟩)
        · rw [pk_cl (r * 5 + i) (am_ix5 r i), pk_cl (r * 3 + i) (am_ix3 r i)]
          show vp_updL _ _ (am_I (R (r * 3 + i))).toInt64 = _
          rw [am_IL (hR r i hrr hi), am_uL]
        · rw [am_upn _ _ (by omega)]; exact g1 j hj
        · by_cases e : i' = i
          · rw [e, am_ups]
          · rw [am_upn _ _ (by omega)]; exact g2 i' (by omega)
end
end
section
theorem am_dote (f : Nat → Int) : ∀ c, c < 4 → am_dot f (am_e c) = f c := by
  refine am_4 ?_ ?_ ?_ ?_ <;> simp [am_dot, am_e]
theorem am_dot0 (f : Nat → Int) : am_dot f (fun _ => 0) = 0 := by simp [am_dot]
/-- the table as it is set up -/
theorem am_Q0 {m : Nat} {g : Nat → Int} {b : Int} {G : Nat → Nat → Int} {T : Nat → Int} {rn cn : Nat → Nat}
    (h1 : ∀ r i, r < m + 3 → i < 3 → T (r * 5 + i) = -(am_F m g b (3 + r) i)) (h2 : ∀ r, r < m + 3 → T (r * 5 + 4) = am_F m g b (3 + r) 4)
    (h3 : ∀ w i, w < 4 → i < 3 → T ((m + 3 + w) * 5 + i) = -(G w i)) (h4 : ∀ w, w < 4 → T ((m + 3 + w) * 5 + 4) = G w 4)
    (h5 : ∀ r, r < m + 3 → rn r = 3 + r) (h6 : ∀ c, c < 3 → cn c = c) :
    am_Q (am_F m g b) G (m + 3) 4 1 T rn cn (fun _ => 0) am_e := by
  refine ⟨⟨fun r hr => ⟨fun c hc => ?_, ?_⟩, fun w hw => ⟨fun c hc => ?_, ?_⟩, fun c c' hc hc' => ?_, fun c hc => ?_⟩, rfl, ?_, by omega, 1, Or.inl rfl, ?_⟩
  · rw [h1 r c hr hc, h5 r hr, am_dote _ c (by omega)]
  · rw [h2 r hr, h5 r hr, am_dot0]; omega
  · rw [h3 w c hw hc, am_dote _ c (by omega)]
  · rw [h4 w hw, am_dot0]; omega
  · rw [h6 c hc, (am_Fx m g b (am_e c') c hc).1]
    unfold am_e
    rfl
  · rw [h6 c hc, (am_Fx m g b _ c hc).1, (am_Fx m g b (fun _ => 0) c hc).2]; omega
  · refine am_3 ?_ ?_ ?_ <;> rfl
  · show (1 : Int) = 1 * am_D _
    unfold am_D am_m
    simp only [h6 0 (by omega), h6 1 (by omega), h6 2 (by omega)]
    simp [am_dot, am_crs, am_F]
theorem am_N0 {m : Nat} {rn cn : Nat → Nat} (h5 : ∀ r, r < m + 3 → rn r = 3 + r) (h6 : ∀ c, c < 3 → cn c = c) : am_N m rn cn := by
  refine ⟨fun r hr => by rw [h5 r hr]; omega, fun c hc => by rw [h6 c hc]; omega, fun v hv => ?_⟩
  by_cases e : v < 3
  · exact Or.inr ⟨v, e, h6 v e⟩
  · exact Or.inl ⟨v - 3, by omega, by rw [h5 _ (by omega)]; omega⟩
/-- the same with the additional column -/
theorem am_P0 {m low : Nat} {g gl o : Nat → Int} {b bl : Int} {T : Nat → Int} {rn cn : Nat → Nat} (hL : am_L1 m low g b gl bl) (hbl : bl < 0)
    (h1 : ∀ r i, r < m + 3 → i < 3 → T (r * 5 + i) = -(am_F m g b (3 + r) i)) (h2 : ∀ r, r < m + 3 → T (r * 5 + 4) = am_F m g b (3 + r) 4) (hx : ∀ r, r < m + 3 → T (r * 5 + 3) = -1)
    (h3 : ∀ w i, w < 4 → i < 3 → T ((m + 3 + w) * 5 + i) = -(am_G o w i)) (h4 : ∀ w, w < 4 → T ((m + 3 + w) * 5 + 4) = am_G o w 4) (hy : ∀ w, w < 4 → T ((m + 3 + w) * 5 + 3) = 0)
    (hw : ∀ c, c < 5 → T ((m + 3 + 4) * 5 + c) = if c = 3 then 1 else 0)
    (h5 : ∀ r, r < m + 3 → rn r = 3 + r) (h6 : ∀ c, c < 3 → cn c = c) (h7 : cn 3 = 99) :
    am_S1 m low g b o gl bl (fun _ => 0) (am_ab (T (low * 5 + 3))) (am_ex T low 3 1 4 (m + 3 + 5)) (am_up rn low (cn 3)) (am_up cn 3 (rn low)) := by
  obtain ⟨l1, l2, l3, l4, l5, _⟩ := hL
  have F3 : ∀ r, r < m + 3 → am_F m g b (3 + r) 3 = 1 := by
    intro r hr
    unfold am_F
    rw [if_neg (by omega)]
    split
    · rfl
    · rw [if_pos (by omega)]; rfl
  have G3 : ∀ w, w < 4 → am_G o w 3 = 0 := by
    intro w hw
    unfold am_G
    repeat' split
    all_goals omega
  have pic : am_pic (am_F m g b) (am_G o) (m + 3) 5 4 1 T rn cn (fun _ => 0) am_e := by
    refine ⟨fun r hr => ⟨fun c hc => ?_, ?_⟩, fun w hw5 => ⟨fun c hc => ?_, ?_⟩, fun c c' hc hc' => ?_, fun c hc => ?_⟩
    · rw [am_dote _ c hc, h5 r hr]
      by_cases e : c = 3
      · rw [e, hx r hr, F3 r hr]
      · exact h1 r c hr (by omega)
    · rw [h2 r hr, h5 r hr, am_dot0]; omega
    · rw [am_dote _ c hc]
      by_cases ew : w = 4
      · rw [ew, hw c (by omega), show am_G o 4 c = if c = 3 then -1 else 0 from rfl]
        split <;> omega
      · by_cases e : c = 3
        · rw [e, hy w (by omega), G3 w (by omega)]; rfl
        · exact h3 w c (by omega) (by omega)
    · rw [am_dot0]
      by_cases ew : w = 4
      · rw [ew, hw 4 (by omega)]
        unfold am_G
        rfl
      · rw [h4 w (by omega)]; omega
    · by_cases e : c = 3
      · rw [e, h7, (am_Fe (by omega) g b (am_e c')).1]
        unfold am_e
        rfl
      · rw [h6 c (by omega), (am_Fx m g b (am_e c') c (by omega)).1]
        unfold am_e
        rfl
    · by_cases e : c = 3
      · rw [e, h7, (am_Fe (by omega) g b _).1, (am_Fe (by omega) g b (fun _ => 0)).2]; omega
      · rw [h6 c (by omega), (am_Fx m g b _ c (by omega)).1, (am_Fx m g b (fun _ => 0) c (by omega)).2]; omega
  have z0 : am_d3 gl (fun _ => 0) = 0 := by simp [am_d3]
  have eu : am_zu gl (fun _ => 0) = 1 := by unfold am_zu; rw [z0]; rfl
  have eE : am_zE gl bl (fun _ => 0) = -bl := by unfold am_zE; rw [z0]; omega
  have ev : ∀ j, am_zv (fun _ => 0) j = am_e 3 j := by intro j; rfl
  have rowc : ∀ c, c < 3 → T (low * 5 + c) = gl c := by
    intro c hc
    rw [h1 low c (by omega) hc, l5 c hc]; omega
  have row3 := hx low (by omega)
  have rowR : T (low * 5 + 4) = bl := by rw [h2 low (by omega), l4]
  have pos : 0 < -1 * T (low * 5 + 3) := by rw [row3]; omega
  refine ⟨fun i hi => Or.inl rfl, by rw [eE]; omega, ?_, ?_, ?_, ?_, ?_, ?_, ?_⟩
  · rw [am_ab_sgn (Or.inr rfl) pos, row3, eu]; omega
  · refine am_pivot pic (by omega) (by omega) (by omega) (by omega) (Or.inr rfl) pos ?_ ?_ ?_
    · intro j hj
      unfold am_zX
      rw [eE, eu, ev, row3, rowR]; grind
    · intro c hc hc3 j hj
      rw [am_zdc (by omega), ev, eu, row3, rowc c (by omega)]
      unfold am_zg
      grind
    · intro j hj
      rw [am_zd3, ev]; omega
  · rw [am_ups, h7]
  · intro r hr hrl
    rw [am_upn _ _ hrl, h5 r (by omega)]
  · intro i hi
    rw [am_upn _ _ (by omega), h5 (m + i) (by omega), if_neg (show ¬ ((fun _ => 0 : Nat → Int) i = 1) by show ¬ ((0 : Int) = 1); decide)]; omega
  · intro c hc
    rw [am_upn _ _ (by omega), h6 c hc, if_neg (show ¬ ((fun _ => 0 : Nat → Int) c = 1) by show ¬ ((0 : Int) = 1); decide)]
  · rw [am_ups, h5 low (by omega)]
/-- closing the additional variable's column -/
theorem am_close {m : Nat} {g : Nat → Int} {b u : Int} {G : Nat → Nat → Int} {T : Nat → Int} {rn cn : Nat → Nat} {X : Nat → Int} {d : Nat → Nat → Int} (h : am_pic (am_F m g b) G (m + 3) 5 4 u T rn cn X d) {q : Nat} (hq : q < 3) (hc : 6 + m ≤ cn q) :
    am_pic (am_F m g b) G (m + 3) 4 3 u (am_cl T q (m + 3 + 4)) rn (am_up cn q (cn 3)) X (fun c => if c = q then d 3 else d c) ∧ X 3 = 0 ∧ (∀ c, c < 3 → (fun c => if c = q then d 3 else d c) c 3 = 0) := by
  obtain ⟨hF, hG, hJ, hK⟩ := h
  have cell : ∀ r c, r < m + 3 + 4 → c < 3 → am_cl T q (m + 3 + 4) (r * 5 + c) = if c = q then T (r * 5 + 3) else T (r * 5 + c) := by
    intro r c hr hc
    unfold am_cl
    rw [if_pos (by omega), show (r * 5 + c) % 5 = c by omega, show (r * 5 + c) / 5 = r by omega]
    by_cases e : c = q
    · rw [if_pos e, if_pos e]
    · rw [if_neg e, if_neg e, if_neg (by omega)]
  have cell4 : ∀ r, r < m + 3 + 4 → am_cl T q (m + 3 + 4) (r * 5 + 4) = T (r * 5 + 4) := by
    intro r hr
    unfold am_cl
    rw [if_pos (by omega), if_neg (by omega), if_neg (by omega)]
  have row : ∀ r f, r < m + 3 + 4 → am_row f 4 u T r X d → am_row f 3 u (am_cl T q (m + 3 + 4)) r X (fun c => if c = q then d 3 else d c) := by
    intro r f hr hf
    refine ⟨fun c hc => ?_, ?_⟩
    · rw [cell r c hr hc]
      show _ = -(am_dot f (if c = q then d 3 else d c))
      by_cases e : c = q
      · rw [if_pos e, if_pos e]; exact hf.1 3 (by omega)
      · rw [if_neg e, if_neg e]; exact hf.1 c (by omega)
    · rw [cell4 r hr]; exact hf.2
  refine ⟨⟨fun r hr => row r _ (by omega) (hF r hr), fun w hw => row (m + 3 + w) _ (by omega) (hG w (by omega)), fun c c' hc1 hc2 => ?_, fun c hc1 => ?_⟩, ?_, fun c hc1 => ?_⟩
  · show am_dot _ (if c' = q then d 3 else d c') = _
    by_cases e : c = q
    · rw [e, am_ups]
      by_cases e' : c' = q
      · rw [if_pos e', if_pos (by omega)]
        have := hJ 3 3 (by omega) (by omega)
        rw [if_pos rfl] at this
        exact this
      · rw [if_neg e', if_neg (by omega)]
        have := hJ 3 c' (by omega) (by omega)
        rw [if_neg (by omega)] at this
        exact this
    · rw [am_upn _ _ e]
      by_cases e' : c' = q
      · rw [if_pos e', if_neg (by omega)]
        have := hJ c 3 (by omega) (by omega)
        rw [if_neg (by omega)] at this
        exact this
      · rw [if_neg e']
        exact hJ c c' (by omega) (by omega)
  · by_cases e : c = q
    · rw [e, am_ups]; exact hK 3 (by omega)
    · rw [am_upn _ _ e]; exact hK c (by omega)
  · have := hK q (by omega)
    rw [(am_Fe hc g b X).1, (am_Fe hc g b X).2] at this
    omega
  · show (if c = q then d 3 else d c) 3 = 0
    by_cases e : c = q
    · rw [if_pos e]
      have := hJ q 3 (by omega) (by omega)
      rw [(am_Fe hc g b (d 3)).1, if_neg (by omega)] at this
      exact this
    · rw [if_neg e]
      have := hJ q c (by omega) (by omega)
      rw [(am_Fe hc g b (d c)).1, if_neg (by omega)] at this
      exact this
/-- the determinant behind a closed column -/
theorem am_zD {m low : Nat} {g gl : Nat → Int} {b bl : Int} (hL : am_L1 m low g b gl bl) {z : Nat → Int} (hz : am_z01 gl z) {cn : Nat → Nat} {q : Nat} (hq : q < 3) (hcq : cn q = 3 + low) (hc : ∀ c, c < 3 → c ≠ q → cn c = if z c = 1 then 3 + m + c else c) :
    ∃ s : Int, (s = 1 ∨ s = -1) ∧ gl q = s * am_D (fun c => am_F m g b (cn c)) := by
  have l5 := hL.2.2.2.2.1
  have un : ∀ c, c < 3 → c ≠ q → ∃ s : Int, (s = 1 ∨ s = -1) ∧ ∀ j, j < 3 → am_F m g b (cn c) j = s * am_e c j := by
    intro c hc3 hcq
    rw [hc c hc3 hcq]
    by_cases e : z c = 1
    · rw [if_pos e]
      refine ⟨-1, Or.inr rfl, fun j hj => ?_⟩
      unfold am_F am_e
      rw [if_neg (by omega), if_neg (by omega), if_pos (by omega), if_pos hj, show 3 + m + c - (3 + m) = c by omega]
      split <;> rfl
    · rw [if_neg e]
      refine ⟨1, Or.inl rfl, fun j hj => ?_⟩
      unfold am_F am_e
      rw [if_pos hc3]
      split <;> rfl
  have hq' : q = 0 ∨ q = 1 ∨ q = 2 := by omega
  rcases hq' with e | e | e <;> subst e
  · obtain ⟨s1, hs1, f1⟩ := un 1 (by omega) (by omega)
    obtain ⟨s2, hs2, f2⟩ := un 2 (by omega) (by omega)
    refine ⟨-(s1 * s2), by rcases hs1 with e | e <;> rcases hs2 with e' | e' <;> subst e <;> subst e' <;> simp, ?_⟩
    have eD : am_D (fun c => am_F m g b (cn c)) = -(gl 0) * (s1 * s2) := by
      unfold am_D am_m am_dot am_crs
      simp only [hcq, l5 0 (by omega), l5 1 (by omega), l5 2 (by omega), f1 0 (by omega), f1 1 (by omega), f1 2 (by omega), f2 0 (by omega), f2 1 (by omega), f2 2 (by omega)]
      simp [am_e]
    rw [eD]
    rcases hs1 with e | e <;> rcases hs2 with e' | e' <;> subst e <;> subst e' <;> omega
  · obtain ⟨s1, hs1, f1⟩ := un 0 (by omega) (by omega)
    obtain ⟨s2, hs2, f2⟩ := un 2 (by omega) (by omega)
    refine ⟨-(s1 * s2), by rcases hs1 with e | e <;> rcases hs2 with e' | e' <;> subst e <;> subst e' <;> simp, ?_⟩
    have eD : am_D (fun c => am_F m g b (cn c)) = -(gl 1) * (s1 * s2) := by
      unfold am_D am_m am_dot am_crs
      simp only [hcq, l5 0 (by omega), l5 1 (by omega), l5 2 (by omega), f1 0 (by omega), f1 1 (by omega), f1 2 (by omega), f2 0 (by omega), f2 1 (by omega), f2 2 (by omega)]
      simp [am_e]
      grind
    rw [eD]
    rcases hs1 with e | e <;> rcases hs2 with e' | e' <;> subst e <;> subst e' <;> omega
  · obtain ⟨s1, hs1, f1⟩ := un 0 (by omega) (by omega)
    obtain ⟨s2, hs2, f2⟩ := un 1 (by omega) (by omega)
    refine ⟨-(s1 * s2), by rcases hs1 with e | e <;> rcases hs2 with e' | e' <;> subst e <;> subst e' <;> simp, ?_⟩
    have eD : am_D (fun c => am_F m g b (cn c)) = -(gl 2) * (s1 * s2) := by
      unfold am_D am_m am_dot am_crs
      simp only [hcq, l5 0 (by omega), l5 1 (by omega), l5 2 (by omega), f1 0 (by omega), f1 1 (by omega), f1 2 (by omega), f2 0 (by omega), f2 1 (by omega), f2 2 (by omega)]
      simp [am_e]
      grind
    rw [eD]
    rcases hs1 with e | e <;> rcases hs2 with e' | e' <;> subst e <;> subst e' <;> omega
end
section
/-! the first climb's invariant -/
section
variable {m low : Nat} {g gl o : Nat → Int} {b bl u : Int} {T : Nat → Int} {rn cn : Nat → Nat} {X : Nat → Int} {d : Nat → Nat → Int} {z : Nat → Int}
/-- cells stay small when directions and point do -/
theorem am_dot4b {f v : Nat → Int} {B : Nat} (hf : am_sm f) (hf3 : (f 3).natAbs ≤ 1) (hv : ∀ j, j < 4 → (v j).natAbs ≤ B) : (am_dot f v).natAbs ≤ 22 * B := by
  have h0 := am_bm (hf.1 0 (by omega)) (hv 0 (by omega))
  have h1 := am_bm (hf.1 1 (by omega)) (hv 1 (by omega))
  have h2 := am_bm (hf.1 2 (by omega)) (hv 2 (by omega))
  have h3 := am_bm hf3 (hv 3 (by omega))
  unfold am_dot
  omega
theorem am_F3 (v : Nat) : (am_F m g b v 3).natAbs ≤ 1 := by
  unfold am_F
  repeat' split
  all_goals omega
theorem am_G3 (w : Nat) : (am_G o w 3).natAbs ≤ 1 := by
  unfold am_G
  repeat' split
  all_goals omega
theorem am_4b (h : am_pic (am_F m g b) (am_G o) (m + 3) 5 4 u T rn cn X d) (hs : am_sms (am_F m g b) (am_G o)) (hu : u.natAbs ≤ 1000) (hX : ∀ j, j < 4 → (X j).natAbs ≤ 10000) (hd : ∀ c, c < 4 → ∀ j, j < 4 → (d c j).natAbs ≤ 1000) :
    ∀ r c, r < m + 3 + 5 → (c < 4 ∨ c = 4) → am_B (T (r * 5 + c)) := by
  have rowb : ∀ r f, am_sm f → (f 3).natAbs ≤ 1 → am_row f 4 u T r X d → ∀ c, (c < 4 ∨ c = 4) → am_B (T (r * 5 + c)) := by
    intro r f hf hf3 hrow c hc
    unfold am_B
    rcases hc with hc | hc
    · rw [hrow.1 c hc]
      have := am_dot4b hf hf3 (hd c hc)
      omega
    · subst hc
      rw [hrow.2]
      have k := am_dot4b hf hf3 hX
      have k2 := am_bm hu hf.2
      omega
  intro r c hr hc
  by_cases e : r < m + 3
  · exact rowb r _ (hs.1 _) (am_F3 _) (h.1 r e) c hc
  · have := rowb (m + 3 + (r - (m + 3))) _ (hs.2 _) (am_G3 _) (h.2.1 (r - (m + 3)) (by omega)) c hc
    rw [show m + 3 + (r - (m + 3)) = r by omega] at this
    exact this
theorem am_zb (hg : am_s7 gl) (hb : bl.natAbs ≤ 600) (hz : am_z01 gl z) : (am_zu gl z).natAbs ≤ 22 ∧ (am_zE gl bl z).natAbs ≤ 1020 ∧ (∀ j, j < 4 → (am_zv z j).natAbs ≤ 1) ∧ (∀ c, c < 3 → (am_zg gl z c).natAbs ≤ 7) ∧ (∀ c, c < 3 → (1 - 2 * z c).natAbs ≤ 1) := by
  have key : ∀ i, i < 3 → (gl i * z i).natAbs ≤ 7 := by
    intro i hi
    have := hg i hi
    rcases hz i hi with e | ⟨e, _⟩ <;> rw [e] <;> omega
  have k0 := key 0 (by omega)
  have k1 := key 1 (by omega)
  have k2 := key 2 (by omega)
  refine ⟨by unfold am_zu am_d3; omega, by unfold am_zE am_d3; omega, ?_, ?_, ?_⟩
  · intro j hj
    unfold am_zv
    by_cases e : j = 3
    · rw [if_pos e]; omega
    · rw [if_neg e]
      rcases hz j (by omega) with e | ⟨e, _⟩ <;> rw [e] <;> omega
  · intro c hc
    unfold am_zg
    have := hg c hc
    rcases hz c hc with e | ⟨e, _⟩ <;> rw [e] <;> omega
  · intro c hc
    rcases hz c hc with e | ⟨e, _⟩ <;> rw [e] <;> omega
theorem am_eb (c j : Nat) : (am_e c j).natAbs ≤ 1 := by unfold am_e; split <;> omega
theorem am_zdb (hg : am_s7 gl) (hb : bl.natAbs ≤ 600) (hz : am_z01 gl z) : (∀ c, c < 4 → ∀ j, j < 4 → (am_zd gl z c j).natAbs ≤ 29) ∧ (∀ j, j < 4 → (am_zX gl bl z j).natAbs ≤ 1900) := by
  obtain ⟨b1, b2, b3, b4, b5⟩ := am_zb hg hb hz
  refine ⟨fun c hc j hj => ?_, fun j hj => ?_⟩
  · by_cases e : c = 3
    · rw [e, am_zd3]; have := b3 j hj; omega
    · have hc3 : c < 3 := by omega
      rw [am_zdc hc3]
      have k1 := am_bm (b4 c hc3) (b3 j hj)
      have k2 := am_bm (am_bm (b5 c hc3) b1) (am_eb c j)
      omega
  · unfold am_zX
    have k1 := am_bm b2 (b3 j hj)
    have k3 : (am_zv z j - am_e 3 j).natAbs ≤ 2 := by have := b3 j hj; have := am_eb 3 j; omega
    have k2 := am_bm b1 k3
    have e : 20 * am_zu gl z * (am_zv z j - am_e 3 j) = 20 * (am_zu gl z * (am_zv z j - am_e 3 j)) := by grind
    rw [e]; omega
theorem am_X2b (hg : am_s7 gl) (hb : bl.natAbs ≤ 600) (hz : am_z01 gl z) {q : Nat} (hq : q < 3) : (∀ j, j < 4 → (am_X2 gl bl z q j).natAbs ≤ 1500) ∧ (∀ c, c < 4 → ∀ j, j < 4 → (am_d2 gl z q c j).natAbs ≤ 29) ∧ (∀ c, c < 4 → ∀ j, j < 4 → (am_d3' gl z q c j).natAbs ≤ 60) := by
  obtain ⟨b1, b2, b3, b4, b5⟩ := am_zb hg hb hz
  obtain ⟨b6, b7⟩ := am_zdb hg hb hz
  have gq := hg q hq
  have D2 : ∀ c, c < 4 → ∀ j, j < 4 → (am_d2 gl z q c j).natAbs ≤ 29 := by
    intro c hc j hj
    unfold am_d2
    split
    · have := b6 q (by omega) j hj; omega
    · split
      · have k1 := am_bm (am_bm gq (b5 c (by assumption))) (am_eb c j)
        have k2 := am_bm (b4 c (by assumption)) (am_eb q j)
        omega
      · have := am_eb q j; omega
  refine ⟨fun j hj => ?_, D2, fun c hc j hj => ?_⟩
  · unfold am_X2
    have k3 : (am_zv z j - am_e 3 j).natAbs ≤ 2 := by have := b3 j hj; have := am_eb 3 j; omega
    have k1 := am_bm gq k3
    have k2 := am_bm b2 (am_eb q j)
    have e : 20 * gl q * (am_zv z j - am_e 3 j) = 20 * (gl q * (am_zv z j - am_e 3 j)) := by grind
    rw [e]; omega
  · unfold am_d3'
    split
    · have := b6 q (by omega) j hj; omega
    · split
      · have := D2 c hc j hj; omega
      · have k1 := am_bm gq (b3 j hj)
        have k3 : (am_zu gl z - 2).natAbs ≤ 24 := by omega
        have k2 := am_bm k3 (am_eb q j)
        omega
/-- an amount at which the additional variable comes to 0 -/
def am_cq (gl : Nat → Int) (bl : Int) (z : Nat → Int) (q : Nat) : Prop := am_z01 gl z ∧ 0 ≤ am_zE gl bl z ∧ q < 3 ∧ z q = 0 ∧ gl q < 0 ∧ am_zE gl bl z + 20 * gl q ≤ 0
def am_n2 (m low : Nat) (z : Nat → Int) (q : Nat) (rn cn : Nat → Nat) : Prop :=
  rn low = q ∧ (∀ r, r < m → r ≠ low → rn r = 3 + r) ∧ (∀ i, i < 3 → rn (m + i) = if z i = 1 then i else 3 + m + i) ∧ cn q = 99 ∧ (∀ c, c < 3 → c ≠ q → cn c = if z c = 1 then 3 + m + c else c) ∧ cn 3 = 3 + low
def am_n3 (m low : Nat) (z : Nat → Int) (q : Nat) (rn cn : Nat → Nat) : Prop :=
  rn low = 99 ∧ rn (1 - low) = q ∧ (∀ i, i < 3 → rn (m + i) = if z i = 1 then i else 3 + m + i) ∧ cn q = 4 - low ∧ (∀ c, c < 3 → c ≠ q → cn c = if z c = 1 then 3 + m + c else c) ∧ cn 3 = 3 + low
def am_I1 (m low : Nat) (g : Nat → Int) (b : Int) (o gl : Nat → Int) (bl : Int) (i : Nat) (u : Int) (T : Nat → Int) (rn cn : Nat → Nat) : Prop :=
  (∃ z, am_S1 m low g b o gl bl z u T rn cn ∧ (i : Int) ≤ z 0 + z 1 + z 2) ∨
  (∃ z q, am_cq gl bl z q ∧ u = -(gl q) ∧ am_pic (am_F m g b) (am_G o) (m + 3) 5 4 u T rn cn (am_X2 gl bl z q) (am_d2 gl z q) ∧ am_n2 m low z q rn cn) ∨
  (∃ z q, m = 2 ∧ am_cq gl bl z q ∧ u = -(2 * gl q) ∧ am_pic (am_F m g b) (am_G o) (m + 3) 5 4 u T rn cn (fun j => 2 * am_X2 gl bl z q j) (am_d3' gl z q) ∧ am_n3 m low z q rn cn)
theorem am_I1ok (hL : am_L1 m low g b gl bl) (hs : am_sms (am_F m g b) (am_G o)) (hg : am_s7 gl) (hb : bl.natAbs ≤ 600) {i : Nat} (h : am_I1 m low g b o gl bl i u T rn cn) :
    u ≠ 0 ∧ am_B u ∧ (∀ r c, r < m + 3 + 4 + 1 → (c < 4 ∨ c = 4) → am_B (T (r * 5 + c))) ∧ (∀ r, r < m + 3 → rn r < 128) ∧ (∀ c, c < 4 → cn c < 128) := by
  have l1 := hL.1
  have l2 := hL.2.1
  have split_r : ∀ r, r < m + 3 → r = low ∨ (r < m ∧ r ≠ low) ∨ ∃ i, i < 3 ∧ r = m + i := by
    intro r hr
    by_cases e : r < m
    · by_cases e2 : r = low
      · exact Or.inl e2
      · exact Or.inr (Or.inl ⟨e, e2⟩)
    · exact Or.inr (Or.inr ⟨r - m, by omega, by omega⟩)
  rcases h with ⟨z, ⟨z01, hE, hu, pic, n1, n2, n3, n4, n5⟩, _⟩ | ⟨z, q, ⟨z01, hE, hq, hzq, hgq, _⟩, hu, pic, n1, n2, n3, n4, n5, n6⟩ | ⟨z, q, hm, ⟨z01, hE, hq, hzq, hgq, _⟩, hu, pic, n1, n2, n3, n4, n5, n6⟩
  · have up := am_zu_pos z01
    obtain ⟨b1, _⟩ := am_zb hg hb z01
    obtain ⟨b6, b7⟩ := am_zdb hg hb z01
    refine ⟨by omega, by unfold am_B; omega, am_4b pic hs (by omega) (fun j hj => by have := b7 j hj; omega) (fun c hc j hj => by have := b6 c hc j hj; omega), fun r hr => ?_, fun c hc => ?_⟩
    · rcases split_r r hr with e | ⟨e, e2⟩ | ⟨i, hi, e⟩
      · rw [e, n1]; omega
      · rw [n2 r e e2]; omega
      · rw [e, n3 i hi]; split <;> omega
    · by_cases e : c = 3
      · rw [e, n5]; omega
      · rw [n4 c (by omega)]; split <;> omega
  · have gq := hg q hq
    obtain ⟨b6, b7, b8⟩ := am_X2b hg hb z01 hq
    refine ⟨by omega, by unfold am_B; omega, am_4b pic hs (by omega) (fun j hj => by have := b6 j hj; omega) (fun c hc j hj => by have := b7 c hc j hj; omega), fun r hr => ?_, fun c hc => ?_⟩
    · rcases split_r r hr with e | ⟨e, e2⟩ | ⟨i, hi, e⟩
      · rw [e, n1]; omega
      · rw [n2 r e e2]; omega
      · rw [e, n3 i hi]; split <;> omega
    · by_cases e : c = 3
      · rw [e, n6]; omega
      · by_cases e2 : c = q
        · rw [e2, n4]; omega
        · rw [n5 c (by omega) e2]; split <;> omega
  · have gq := hg q hq
    obtain ⟨b6, b7, b8⟩ := am_X2b hg hb z01 hq
    refine ⟨by omega, by unfold am_B; omega, am_4b pic hs (by omega) (fun j hj => by have := b6 j hj; omega) (fun c hc j hj => by have := b8 c hc j hj; omega), fun r hr => ?_, fun c hc => ?_⟩
    · rcases split_r r hr with e | ⟨e, e2⟩ | ⟨i, hi, e⟩
      · rw [e, n1]; omega
      · rw [show r = 1 - low by omega, n2]; omega
      · rw [e, n3 i hi]; split <;> omega
    · by_cases e : c = 3
      · rw [e, n6]; omega
      · by_cases e2 : c = q
        · rw [e2, n4]; omega
        · rw [n5 c (by omega) e2]; split <;> omega
/-- helping columns -/
theorem am_S1h (h : am_S1 m low g b o gl bl z u T rn cn) {q : Nat} (hq : q < 4) (hp : am_hp T (m + 3 + 4) 1 q) : q < 3 ∧ z q = 0 ∧ gl q < 0 := by
  obtain ⟨z01, hE, hu, pic, _⟩ := h
  obtain ⟨w, hw, hl, _⟩ := hp
  have e : w = 0 := by omega
  subst e
  have := (am_4w pic hq).1
  rw [show m + 3 + 4 + 0 = m + 3 + 4 by omega, this] at hl
  by_cases e3 : q = 3
  · rw [e3, am_zd3, am_zv3] at hl; omega
  · have hq3 : q < 3 := by omega
    rw [am_zdc hq3, am_zv3, am_e_n (by omega)] at hl
    refine ⟨hq3, ?_⟩
    unfold am_zg at hl
    rcases z01 q hq3 with e | ⟨e, hn⟩
    · rw [e] at hl; exact ⟨e, by omega⟩
    · rw [e] at hl; omega
theorem am_S1n (h : am_S1 m low g b o gl bl z u T rn cn) (hp : ∀ c, c < 4 → ¬ am_hp T (m + 3 + 4) 1 c) : ∀ c, c < 3 → 0 ≤ am_zg gl z c := by
  obtain ⟨z01, hE, hu, pic, _⟩ := h
  intro c hc
  rcases Int.lt_or_le (am_zg gl z c) 0 with y | y
  · exfalso
    refine hp c (by omega) ⟨0, by omega, ?_, fun w' hw' => absurd hw' (by omega)⟩
    have := (am_4w pic (show c < 4 by omega)).1
    rw [show m + 3 + 4 + 0 = m + 3 + 4 by omega, this, am_zdc hc, am_zv3, am_e_n (by omega)]
    omega
  · exact y
theorem am_I1step (hL : am_L1 m low g b gl bl) {i : Nat} (h : am_I1 m low g b o gl bl i u T rn cn) {q r : Nat} (hq : q < 4) (hp : am_hp T (m + 3 + 4) 1 q) (hr : r < m + 3) (hpos : 0 < T (r * 5 + q)) (hlq : ∀ r', r' < m + 3 → 0 < T (r' * 5 + q) → am_lq T rn q r r') :
    am_I1 m low g b o gl bl (i + 1) (am_ab (T (r * 5 + q))) (am_ex T r q u 4 (m + 3 + 4 + 1)) (am_up rn r (cn q)) (am_up cn q (rn r)) := by
  have l1 := hL.1
  have l2 := hL.2.1
  rcases h with ⟨z, hS, hi⟩ | ⟨z, q2, ⟨z01, hE, hq2, hzq, hgq, _⟩, hu, pic, _⟩ | ⟨z, q2, hm, ⟨z01, hE, hq2, hzq, hgq, _⟩, hu, pic, _⟩
  · obtain ⟨hq3, hzq, hgq⟩ := am_S1h hS hq hp
    have hS' := hS
    obtain ⟨z01, hE, hu, pic, n1, n2, n3, n4, n5⟩ := hS'
    have up := am_zu_pos z01
    have ecn : cn q = q := by rw [n4 q hq3, if_neg (by omega)]
    -- the additional variable's row
    have dq3 : am_zd gl z q 3 = gl q := by rw [am_zdq hq3 hzq, am_zv3, am_e_n (by omega)]; omega
    have X3 : am_zX gl bl z 3 = am_zE gl bl z := by unfold am_zX; rw [am_zv3, am_e_s]; grind
    have lc : T (low * 5 + q) = -(gl q) := by rw [(am_4e pic (by omega) hq (by omega)).1, dq3]
    have lR : T (low * 5 + 4) = am_zE gl bl z := by rw [(am_4e pic (by omega) hq (by omega)).2, X3]
    -- the row of q's bound
    have snm : rn (m + q) = 3 + m + q := by rw [n3 q hq3, if_neg (by omega)]
    have dqq : am_zd gl z q q = u := by rw [am_zdq hq3 hzq, am_zvn z hq3, hzq, am_e_s, hu]; omega
    have Xz : ∀ i, i < 3 → am_zX gl bl z i = (am_zE gl bl z + 20 * u) * z i := by
      intro i hi
      unfold am_zX
      rw [am_zvn z hi, am_e_n (by omega), hu]; grind
    have sc : T ((m + q) * 5 + q) = u - gl q := by rw [(am_4s pic (by omega) hq hq3 snm).1, dqq, dq3]
    have sR : T ((m + q) * 5 + 4) = am_zE gl bl z + 20 * u := by rw [(am_4s pic (by omega) hq hq3 snm).2, X3, Xz q hq3, hzq]; omega
    have ug : 0 < u * (-(gl q)) := Int.mul_pos (by omega) (by omega)
    have ll := hlq low (by omega) (by omega)
    have ls := hlq (m + q) (by omega) (by omega)
    unfold am_lq at ll ls
    rw [lc, lR] at ll
    rw [sc, sR] at ls
    have rc : r = low ∨ (r < m ∧ r ≠ low) ∨ ∃ i, i < 3 ∧ r = m + i := by
      by_cases e : r < m
      · by_cases e2 : r = low
        · exact Or.inl e2
        · exact Or.inr (Or.inl ⟨e, e2⟩)
      · exact Or.inr (Or.inr ⟨r - m, by omega, by omega⟩)
    rcases rc with e | ⟨e, e2⟩ | ⟨j, hj, e⟩
    · -- the additional variable leaves
      subst e
      obtain ⟨pic', hu'⟩ := am_S1e hS hL hq3 hzq hgq
      right; left
      have hc : am_zE gl bl z + 20 * gl q ≤ 0 := by
        rw [lc, lR] at ls
        have a : am_zE gl bl z * (u - gl q) ≤ (am_zE gl bl z + 20 * u) * -(gl q) := by omega
        have e1 : am_zE gl bl z * (u - gl q) = u * am_zE gl bl z - am_zE gl bl z * gl q := by grind
        have e2 : (am_zE gl bl z + 20 * u) * -(gl q) = -(am_zE gl bl z * gl q) - u * (20 * gl q) := by grind
        have e3 : u * (am_zE gl bl z + 20 * gl q) = u * am_zE gl bl z + u * (20 * gl q) := by grind
        have : 0 ≤ u * -(am_zE gl bl z + 20 * gl q) := by
          have : u * -(am_zE gl bl z + 20 * gl q) = -(u * (am_zE gl bl z + 20 * gl q)) := by grind
          omega
        have := am_nn (by omega) this
        omega
      refine ⟨z, q, ⟨z01, hE, hq3, hzq, hgq, hc⟩, hu', pic', ?_, fun r hr hrl => ?_, fun i hi => ?_, ?_, fun c hc hcq => ?_, ?_⟩
      · rw [am_ups, ecn]
      · rw [am_upn _ _ hrl]; exact n2 r hr hrl
      · rw [am_upn _ _ (by omega)]; exact n3 i hi
      · rw [am_ups, n1]
      · rw [am_upn _ _ hcq]; exact n4 c hc
      · rw [am_upn _ _ (by omega)]; exact n5
    · -- the other condition leaves
      have hm : m = 2 := by omega
      have er : r = 1 - low := by omega
      subst er
      obtain ⟨pic', hu'⟩ := am_S1o hS hL hm hq3 hzq hgq
      right; right
      have enm : rn (1 - low) = 4 - low := by rw [n2 (1 - low) (by omega) (by omega)]; omega
      have oc : T ((1 - low) * 5 + q) = -(2 * gl q) := by
        rw [(am_4o pic hL hm (by omega) hq enm).1, am_zgd q hq3, dq3]
        unfold am_zg; rw [hzq]; omega
      have hc : am_zE gl bl z + 20 * gl q ≤ 0 := by
        have oR : T ((1 - low) * 5 + 4) = 2 * am_zE gl bl z := by
          rw [(am_4o pic hL hm (by omega) hq enm).2, X3]
          have e : am_d3 gl (am_zX gl bl z) = (am_zE gl bl z + 20 * u) * am_d3 gl z := by
            unfold am_d3
            rw [Xz 0 (by omega), Xz 1 (by omega), Xz 2 (by omega)]; grind
          rw [e, hu]
          unfold am_zu am_zE; grind
        rw [oc, oR] at ls
        have a : 2 * am_zE gl bl z * (u - gl q) ≤ (am_zE gl bl z + 20 * u) * -(2 * gl q) := by omega
        have e1 : 2 * am_zE gl bl z * (u - gl q) = 2 * (u * am_zE gl bl z) - 2 * (am_zE gl bl z * gl q) := by grind
        have e2 : (am_zE gl bl z + 20 * u) * -(2 * gl q) = -(2 * (am_zE gl bl z * gl q)) - 2 * (u * (20 * gl q)) := by grind
        have e3 : u * (am_zE gl bl z + 20 * gl q) = u * am_zE gl bl z + u * (20 * gl q) := by grind
        have : 0 ≤ u * -(am_zE gl bl z + 20 * gl q) := by
          have : u * -(am_zE gl bl z + 20 * gl q) = -(u * (am_zE gl bl z + 20 * gl q)) := by grind
          omega
        have := am_nn (by omega) this
        omega
      refine ⟨z, q, hm, ⟨z01, hE, hq3, hzq, hgq, hc⟩, hu', pic', ?_, ?_, fun i hi => ?_, ?_, fun c hc hcq => ?_, ?_⟩
      · rw [am_upn _ _ (by omega)]; exact n1
      · rw [am_ups, ecn]
      · rw [am_upn _ _ (by omega)]; exact n3 i hi
      · rw [am_ups, enm]
      · rw [am_upn _ _ hcq]; exact n4 c hc
      · rw [am_upn _ _ (by omega)]; exact n5
    · subst e
      by_cases ej : j = q
      · -- the bound of q is reached
        subst ej
        left
        rw [sc, sR] at ll
        have hc : 0 ≤ am_zE gl bl z + 20 * gl j := by
          have a : (am_zE gl bl z + 20 * u) * -(gl j) ≤ am_zE gl bl z * (u - gl j) := by omega
          have e1 : am_zE gl bl z * (u - gl j) = u * am_zE gl bl z - am_zE gl bl z * gl j := by grind
          have e2 : (am_zE gl bl z + 20 * u) * -(gl j) = -(am_zE gl bl z * gl j) - u * (20 * gl j) := by grind
          have e3 : u * (am_zE gl bl z + 20 * gl j) = u * am_zE gl bl z + u * (20 * gl j) := by grind
          exact am_nn (show 0 < u by omega) (by omega)
        refine ⟨am_up z j 1, am_S1s hS hL hq3 hzq hgq hc, ?_⟩
        have : am_up z j 1 0 + am_up z j 1 1 + am_up z j 1 2 = z 0 + z 1 + z 2 + 1 := by
          have hj' : j = 0 ∨ j = 1 ∨ j = 2 := by omega
          rcases hj' with e | e | e <;> subst e <;> simp [am_up, hzq] <;> omega
        rw [this]
        omega
      · -- no other bound is reached first
        exfalso
        have cc : T ((m + j) * 5 + q) = -(gl q) ∧ T ((m + j) * 5 + 4) = am_zE gl bl z + 20 * u := by
          have dqj : am_zd gl z q j = gl q * z j := by rw [am_zdq hq3 hzq, am_zvn z hj, am_e_n ej]; omega
          rcases z01 j hj with e | ⟨e, hn⟩
          · have nm : rn (m + j) = 3 + m + j := by rw [n3 j hj, if_neg (by omega)]
            obtain ⟨k1, k2⟩ := am_4s pic (by omega) hq hj nm
            rw [k1, k2, dqj, dq3, X3, Xz j hj, e]
            exact ⟨by omega, by omega⟩
          · have nm : rn (m + j) = j := by rw [n3 j hj, if_pos e]
            obtain ⟨k1, k2⟩ := am_4x pic (by omega) hq hj nm
            rw [k1, k2, dqj, Xz j hj, e]
            exact ⟨by omega, by omega⟩
        rw [cc.1, cc.2] at ll
        have e1 : (am_zE gl bl z + 20 * u) * -(gl q) = am_zE gl bl z * -(gl q) + 20 * (u * -(gl q)) := by grind
        omega
  · -- nothing helps any more
    exfalso
    obtain ⟨w, hw, hl, _⟩ := hp
    have e : w = 0 := by omega
    subst e
    have := (am_4w pic hq).1
    rw [show m + 3 + 4 + 0 = m + 3 + 4 by omega, this] at hl
    unfold am_d2 at hl
    split at hl
    · rw [am_zdq hq2 hzq, am_zv3, am_e_n (by omega)] at hl; omega
    · split at hl
      · rw [am_e_n (show 3 ≠ q by omega), am_e_n (show 3 ≠ q2 by omega)] at hl; omega
      · rw [am_e_n (show 3 ≠ q2 by omega)] at hl; omega
  · exfalso
    obtain ⟨w, hw, hl, _⟩ := hp
    have e : w = 0 := by omega
    subst e
    have := (am_4w pic hq).1
    rw [show m + 3 + 4 + 0 = m + 3 + 4 by omega, this] at hl
    unfold am_d3' am_d2 at hl
    split at hl
    · rw [am_zdq hq2 hzq, am_zv3, am_e_n (by omega)] at hl; omega
    · rename_i hne
      split at hl
      · rw [am_e_n (show 3 ≠ q by omega), am_e_n (show 3 ≠ q2 by omega)] at hl; omega
      · rw [am_zv3, am_e_n (show 3 ≠ q2 by omega)] at hl; omega
/-- where the first climb ends -/
theorem am_I1exit (hL : am_L1 m low g b gl bl) {i : Nat} (h : am_S1 m low g b o gl bl z u T rn cn) (hi : (i : Int) ≤ z 0 + z 1 + z 2)
    (hx : i = 100000 ∨ (∀ c, c < 4 → ¬ am_hp T (m + 3 + 4) 1 c) ∨ (∃ q, q < 4 ∧ am_hp T (m + 3 + 4) 1 q ∧ (∀ c, c < 4 → am_hp T (m + 3 + 4) 1 c → cn q ≤ cn c) ∧ ∀ r, r < m + 3 → T (r * 5 + q) ≤ 0)) : ∀ c, c < 3 → 0 ≤ am_zg gl z c := by
  rcases hx with e | hx | ⟨q, hq, hp, _, hr⟩
  · exfalso
    obtain ⟨z01, _⟩ := h
    have key : ∀ i, i < 3 → z i ≤ 1 := by
      intro i hi
      rcases z01 i hi with e | ⟨e, _⟩ <;> omega
    have k0 := key 0 (by omega)
    have k1 := key 1 (by omega)
    have k2 := key 2 (by omega)
    omega
  · exact am_S1n h hx
  · exfalso
    obtain ⟨hq3, hzq, hgq⟩ := am_S1h h hq hp
    obtain ⟨z01, hE, hu, pic, n1, _⟩ := h
    have l1 := hL.1
    have l2 := hL.2.1
    have := hr low (by omega)
    rw [(am_4e pic (by omega) hq (by omega)).1, am_zdq hq3 hzq, am_zv3, am_e_n (by omega)] at this
    omega
end
end
section
/-! what the first climb leaves -/
section
variable {m low : Nat} {g gl o : Nat → Int} {b bl u : Int} {T : Nat → Int} {rn cn : Nat → Nat} {X : Nat → Int} {d : Nat → Nat → Int} {z : Nat → Int}
def am_J1 (m low : Nat) (g : Nat → Int) (b : Int) (o gl : Nat → Int) (bl : Int) (u : Int) (T : Nat → Int) (rn cn : Nat → Nat) : Prop :=
  ∃ X d z q, am_Q (am_F m g b) (am_G o) (m + 3) 4 u T rn cn X d ∧ am_N m rn cn ∧ am_fe (am_F m g b) m u X ∧ am_z01 gl z ∧ q < 3 ∧ cn q = 3 + low ∧ (∀ c, c < 3 → c ≠ q → cn c = if z c = 1 then 3 + m + c else c) ∧ ((gl q < 0 ∧ z q = 0) ∨ (am_zE gl bl z = 0 ∧ ∀ c, c < 3 → 0 ≤ am_zg gl z c))
theorem am_cov (hL : am_L1 m low g b gl bl) {q : Nat} (hq : q < 3) (h1 : ∀ i, i < 3 → rn (m + i) = if z i = 1 then i else 3 + m + i) (h2 : ∀ c, c < 3 → c ≠ q → cn c = if z c = 1 then 3 + m + c else c)
    (h3 : ∃ r, r < m ∧ rn r = if z q = 1 then 3 + m + q else q) (h4 : m = 2 → ∃ r, r < m ∧ rn r = 4 - low) (h5 : ∀ r, r < m → rn r < 6 + m) : am_N m rn (am_up cn q (3 + low)) := by
  have l1 := hL.1
  have l2 := hL.2.1
  refine ⟨fun r hr => ?_, fun c hc => ?_, fun v hv => ?_⟩
  · by_cases e : r < m
    · exact h5 r e
    · have := h1 (r - m) (by omega)
      rw [show m + (r - m) = r by omega] at this
      rw [this]; split <;> omega
  · by_cases e : c = q
    · rw [e, am_ups]; omega
    · rw [am_upn _ _ e, h2 c hc e]; split <;> omega
  · obtain ⟨r0, hr0, er0⟩ := h3
    rcases am_vcase hv l2 with hv3 | ⟨m1, e⟩ | ⟨m2, e⟩ | ⟨i, hi, e⟩
    · by_cases ez : z v = 1
      · exact Or.inl ⟨m + v, by omega, by rw [h1 v hv3, if_pos ez]⟩
      · by_cases ev : v = q
        · exact Or.inl ⟨r0, by omega, by rw [er0, if_neg (by rw [← ev]; exact ez), ev]⟩
        · exact Or.inr ⟨v, hv3, by rw [am_upn _ _ ev, h2 v hv3 ev, if_neg ez]⟩
    · by_cases el : low = 0
      · exact Or.inr ⟨q, hq, by rw [am_ups]; omega⟩
      · obtain ⟨r, hr, er⟩ := h4 (by omega)
        exact Or.inl ⟨r, by omega, by rw [er]; omega⟩
    · by_cases el : low = 1
      · exact Or.inr ⟨q, hq, by rw [am_ups]; omega⟩
      · obtain ⟨r, hr, er⟩ := h4 m2
        exact Or.inl ⟨r, by omega, by rw [er]; omega⟩
    · by_cases ez : z i = 1
      · by_cases ei : i = q
        · exact Or.inl ⟨r0, by omega, by rw [er0, if_pos (by rw [← ei]; exact ez), ← ei, e]⟩
        · exact Or.inr ⟨i, hi, by rw [am_upn _ _ ei, h2 i hi ei, if_pos ez, e]⟩
      · exact Or.inl ⟨m + i, by omega, by rw [h1 i hi, if_neg ez, e]⟩
theorem am_zfe (hL : am_L1 m low g b gl bl) (hX3 : X 3 = 0) (hx : ∀ i, i < 3 → 0 ≤ X i ∧ X i ≤ 20 * u) (ht : am_d3 gl X = u * bl) : am_fe (am_F m g b) m u X := by
  obtain ⟨l1, l2, l3, l4, _, l6⟩ := hL
  have tl : am_dot (am_F m g b (3 + low)) X + u * am_F m g b (3 + low) 4 = 0 := by rw [l3, l4, hX3, ht]; omega
  have to : m = 2 → am_dot (am_F m g b (4 - low)) X + u * am_F m g b (4 - low) 4 = 0 := by
    intro e
    obtain ⟨k1, k2⟩ := l6 e
    have e : u * -bl = -(u * bl) := by grind
    rw [k1, k2, hX3, ht, e]; omega
  intro v hv
  rcases am_vcase hv l2 with hv3 | ⟨m1, e⟩ | ⟨m2, e⟩ | ⟨i, hi, e⟩
  · rw [(am_Fx m g b X v hv3).1, (am_Fx m g b X v hv3).2]
    have := (hx v hv3).1
    omega
  · by_cases el : low = 0
    · rw [show v = 3 + low by omega, tl]; omega
    · rw [show v = 4 - low by omega, to (by omega)]; omega
  · by_cases el : low = 1
    · rw [show v = 3 + low by omega, tl]; omega
    · rw [show v = 4 - low by omega, to (by omega)]; omega
  · rw [e, (am_Fs m g b X i hi).1, (am_Fs m g b X i hi).2, hX3]
    have := (hx i hi).2
    omega
theorem am_zz (hz : am_z01 gl z) {i : Nat} (hi : i < 3) : z i = 0 ∨ z i = 1 := by
  rcases hz i hi with e | ⟨e, _⟩
  · exact Or.inl e
  · exact Or.inr e
theorem am_fin (hL : am_L1 m low g b gl bl) (pic : am_pic (am_F m g b) (am_G o) (m + 3) 5 4 u T rn cn X d) {q : Nat} (hq : q < 3) (hu : 0 < u) (huq : u = gl q ∨ u = -(gl q)) (hz : am_z01 gl z) (hcq : cn q = 99) (hc3 : cn 3 = 3 + low)
    (h1 : ∀ i, i < 3 → rn (m + i) = if z i = 1 then i else 3 + m + i) (h2 : ∀ c, c < 3 → c ≠ q → cn c = if z c = 1 then 3 + m + c else c)
    (h3 : ∃ r, r < m ∧ rn r = if z q = 1 then 3 + m + q else q) (h4 : m = 2 → ∃ r, r < m ∧ rn r = 4 - low) (h5 : ∀ r, r < m → rn r < 6 + m)
    (hx : ∀ i, i < 3 → 0 ≤ X i ∧ X i ≤ 20 * u) (ht : am_d3 gl X = u * bl) (hlast : (gl q < 0 ∧ z q = 0) ∨ (am_zE gl bl z = 0 ∧ ∀ c, c < 3 → 0 ≤ am_zg gl z c)) :
    am_J1 m low g b o gl bl u (am_cl T q (m + 3 + 4)) rn (am_up cn q (cn 3)) := by
  have l1 := hL.1
  have l2 := hL.2.1
  obtain ⟨p3, x3, dd3⟩ := am_close pic hq (by omega)
  have c2 : ∀ c, c < 3 → c ≠ q → am_up cn q (cn 3) c = if z c = 1 then 3 + m + c else c := fun c hc e => by rw [am_upn _ _ e]; exact h2 c hc e
  have cq2 : am_up cn q (cn 3) q = 3 + low := by rw [am_ups, hc3]
  obtain ⟨s, hs, eD⟩ := am_zD hL hz hq cq2 c2
  refine ⟨X, _, z, q, ⟨p3, x3, dd3, hu, ?_⟩, ?_, am_zfe hL x3 hx ht, hz, hq, cq2, c2, hlast⟩
  · rcases huq with e | e
    · exact ⟨s, hs, by rw [e]; exact eD⟩
    · refine ⟨-s, by rcases hs with y | y <;> subst y <;> simp, ?_⟩
      rw [e, eD]; grind
  · rw [hc3]
    exact am_cov hL hq h1 h2 h3 h4 h5
theorem am_X2d (hL : am_L1 m low g b gl bl) {q : Nat} (hc : am_cq gl bl z q) : (∀ i, i < 3 → 0 ≤ am_X2 gl bl z q i ∧ am_X2 gl bl z q i ≤ 20 * -(gl q)) ∧ am_d3 gl (am_X2 gl bl z q) = -(gl q) * bl := by
  obtain ⟨z01, hE, hq, hzq, hgq, hle⟩ := hc
  have val : ∀ i, i < 3 → am_X2 gl bl z q i = -(20 * gl q * z i) + am_zE gl bl z * am_e q i := by
    intro i hi
    unfold am_X2
    rw [am_zvn z hi, am_e_n (show i ≠ 3 by omega)]; grind
  refine ⟨fun i hi => ?_, ?_⟩
  · rw [val i hi]
    by_cases e : i = q
    · rw [e, hzq, am_e_s]; exact ⟨by omega, by omega⟩
    · rw [am_e_n e]
      rcases am_zz z01 hi with y | y <;> rw [y] <;> exact ⟨by omega, by omega⟩
  · have e1 : am_d3 gl (am_X2 gl bl z q) = -(20 * gl q * am_d3 gl z) + am_zE gl bl z * am_d3 gl (am_e q) := by
      unfold am_d3
      rw [val 0 (by omega), val 1 (by omega), val 2 (by omega)]; grind
    have e2 : am_d3 gl (am_e q) = gl q := by
      have := am_d3e (o := gl) (w := am_e q) (x := 1) hq (fun i _ => rfl)
      rw [this]; omega
    rw [e1, e2]
    unfold am_zE; grind
/-- the additional variable left: only its column is closed -/
theorem am_f2 (hL : am_L1 m low g b gl bl) {q : Nat} (hc : am_cq gl bl z q) (hu : u = -(gl q)) (pic : am_pic (am_F m g b) (am_G o) (m + 3) 5 4 u T rn cn (am_X2 gl bl z q) (am_d2 gl z q)) (hn : am_n2 m low z q rn cn) :
    am_J1 m low g b o gl bl u (am_cl T q (m + 3 + 4)) rn (am_up cn q (cn 3)) := by
  obtain ⟨x1, x2⟩ := am_X2d hL hc
  obtain ⟨z01, hE, hq, hzq, hgq, hle⟩ := hc
  obtain ⟨n1, n2, n3, n4, n5, n6⟩ := hn
  have l1 := hL.1
  have l2 := hL.2.1
  refine am_fin hL pic hq (by omega) (Or.inr hu) z01 n4 n6 n3 n5 ⟨low, l1, by rw [n1, if_neg (by omega)]⟩ (fun e => ⟨1 - low, by omega, by rw [n2 (1 - low) (by omega) (by omega)]; omega⟩) (fun r hr => ?_) (by rw [hu]; exact x1) (by rw [hu]; exact x2) (Or.inl ⟨hgq, hzq⟩)
  by_cases e : r = low
  · rw [e, n1]; omega
  · rw [n2 r hr e]; omega
/-- the other condition left: the additional variable is dropped at its column -/
theorem am_f3 (hL : am_L1 m low g b gl bl) {q : Nat} (hm : m = 2) (hc : am_cq gl bl z q) (hu : u = -(2 * gl q)) (pic : am_pic (am_F m g b) (am_G o) (m + 3) 5 4 u T rn cn (fun j => 2 * am_X2 gl bl z q j) (am_d3' gl z q)) (hn : am_n3 m low z q rn cn) :
    am_J1 m low g b o gl bl (am_ab (T (low * 5 + q))) (am_cl (am_ex T low q u 4 (m + 3 + 5)) q (m + 3 + 4)) (am_up rn low (cn q)) (am_up (am_up cn q (rn low)) q (am_up cn q (rn low) 3)) ∧ (∀ c, c < q → T (low * 5 + c) = 0) ∧ T (low * 5 + q) ≠ 0 := by
  obtain ⟨x1, x2⟩ := am_X2d hL hc
  obtain ⟨z01, hE, hq, hzq, hgq, hle⟩ := hc
  obtain ⟨n1, n2, n3, n4, n5, n6⟩ := hn
  have l1 := hL.1
  have l2 := hL.2.1
  obtain ⟨pic', hu', hz', hne⟩ := am_S1p (low := low) pic hq hzq hgq hu (by omega) (by omega)
  refine ⟨am_fin hL pic' hq (by omega) (Or.inr hu') z01 (by rw [am_ups, n1]) (by rw [am_upn _ _ (by omega)]; exact n6) (fun i hi => by rw [am_upn _ _ (by omega)]; exact n3 i hi) (fun c hc e => by rw [am_upn _ _ e]; exact n5 c hc e) ⟨1 - low, by omega, by rw [am_upn _ _ (by omega), n2, if_neg (by omega)]⟩ (fun e => ⟨low, l1, by rw [am_ups, n4]⟩) (fun r hr => ?_) (by rw [hu']; exact x1) (by rw [hu']; exact x2) (Or.inl ⟨hgq, hzq⟩), fun c hc => hz' c (by omega) (by omega), hne⟩
  by_cases e : r = low
  · rw [e, am_ups, n4]; omega
  · rw [am_upn _ _ e, show r = 1 - low by omega, n2]; omega
/-- the additional variable stayed a row, at 0: it is dropped at the first column that it can be -/
theorem am_f4 (hL : am_L1 m low g b gl bl) {q : Nat} (hS : am_S1 m low g b o gl bl z u T rn cn) (hq : q < 3) (hE : am_zE gl bl z = 0) (hall : ∀ c, c < 3 → 0 ≤ am_zg gl z c) (hg : am_zg gl z q ≠ 0) :
    am_J1 m low g b o gl bl (am_ab (T (low * 5 + q))) (am_cl (am_ex T low q u 4 (m + 3 + 5)) q (m + 3 + 4)) (am_up rn low (cn q)) (am_up (am_up cn q (rn low)) q (am_up cn q (rn low) 3)) := by
  have hg' : 0 < am_zg gl z q := by have := hall q hq; omega
  obtain ⟨pic', hu'⟩ := am_S1d hS hL hq hE hg'
  obtain ⟨z01, hE0, hu, pic, n1, n2, n3, n4, n5⟩ := hS
  have l1 := hL.1
  have l2 := hL.2.1
  have zq := am_zz z01 hq
  have val : ∀ i, i < 3 → am_X4 z (am_zg gl z q) i = 20 * am_zg gl z q * z i := by
    intro i hi
    unfold am_X4
    rw [am_zvn z hi, am_e_n (show i ≠ 3 by omega)]; grind
  have uq : am_zg gl z q = gl q ∨ am_zg gl z q = -(gl q) := by
    unfold am_zg
    rcases zq with y | y <;> rw [y]
    · left; omega
    · right; omega
  refine am_fin hL pic' hq (by omega) (by rw [hu']; exact uq) z01 (by rw [am_ups, n1]) (by rw [am_upn _ _ (by omega)]; exact n5) (fun i hi => by rw [am_upn _ _ (by omega)]; exact n3 i hi) (fun c hc e => by rw [am_upn _ _ e]; exact n4 c hc) ⟨low, l1, by rw [am_ups, n4 q hq]⟩ (fun e => ⟨1 - low, by omega, by rw [am_upn _ _ (by omega), n2 (1 - low) (by omega) (by omega)]; omega⟩) (fun r hr => ?_) ?_ ?_ (Or.inr ⟨hE, hall⟩)
  · by_cases e : r = low
    · rw [e, am_ups, n4 q hq]; split <;> omega
    · rw [am_upn _ _ e, n2 r hr e]; omega
  · intro i hi
    rw [val i hi, hu']
    rcases am_zz z01 hi with y | y <;> rw [y] <;> exact ⟨by omega, by omega⟩
  · rw [hu']
    have e1 : am_d3 gl (am_X4 z (am_zg gl z q)) = am_zg gl z q * (20 * am_d3 gl z) := by
      unfold am_d3
      rw [val 0 (by omega), val 1 (by omega), val 2 (by omega)]; grind
    have e2 : 20 * am_d3 gl z = bl := by unfold am_zE at hE; omega
    rw [e1, e2]
/-- the first column where the additional variable's row isn't 0 -/
theorem am_first (P : Nat → Prop) (h : ∃ k, k < 3 ∧ P k) : ∃ k, k < 3 ∧ P k ∧ ∀ j, j < k → ¬ P j := by
  obtain ⟨k, hk, hp⟩ := h
  obtain ⟨k0, hk0, hl⟩ := pk_least P ⟨k, hp⟩
  refine ⟨k0, ?_, hk0, hl⟩
  rcases Nat.lt_or_ge k0 3 with y | y
  · exact y
  · exact absurd hp (hl k (by omega))
end
end
section
section
variable {pr_ wo_ ro_ tu_ co_ fw_ wc_ li_ em_ hh_ hl_ br_ l3_ g3_ : Int32} {un_ wt_ wb_ ht_ hb_ lt_ lb_ : Int64} {a1 a2 a3 a4 a5 a6 a7 a8 a9 a11 a12 a18 a19 : Nat → Int32} {a10 a13 a14 a15 a16 a17 : Nat → Int64}
/-- the end of the search for a point, found by a column -/
theorem am_fp2 {post : Int32 → St2 → Prop} {m q : Nat} {u : Int} {T : Nat → Int} {rn cn : Nat → Nat} (hm : m ≤ 2) (hrn : ∀ r, r < m + 3 → rn r < 99) (hcn : ∀ c, c < 4 → cn c < 128) (hq : q < 3) (hc : cn q = 99) (hl : ∀ c, c < q → cn c ≠ 99)
    (h : post 1 (pr_, wo_, nI (m + 3), tu_, am_L u, nI 3, nI (m + 3), nI 4, wt_, wb_, li_, em_, hh_, ht_, hb_, hl_, lt_, lb_, br_, l3_, g3_, a1, a2, a3, a4, a5, a6, a7, a8, a9, am_lf (am_cl T q (m + 3 + 4)), am_nf rn, am_nf (am_up cn q (cn 3)), a13, a14, a15, a16, a17, a18, a19)) :
    wX_findPoint_140 post 1 pr_ wo_ (nI (m + 3)) tu_ (am_L u) (nI 4) (nI (m + 3 + 4)) (nI 1) wt_ wb_ li_ em_ hh_ ht_ hb_ hl_ lt_ lb_ br_ l3_ g3_ a1 a2 a3 a4 a5 a6 a7 a8 a9 (am_lf T) (am_nf rn) (am_nf cn) a13 a14 a15 a16 a17 a18 a19 := by
  unfold wX_findPoint_140
  refine am_dropCol (by omega) hrn hcn hq hc hl ?_
  refine br_f (by decide) (br_f (nI_pos (by omega)) ?_)
  exact am_closeColumn (by omega) hq (hcn 3 (by omega)) ⟨rfl, h⟩
/-- .. found by dropping the row -/
theorem am_fp3 {post : Int32 → St2 → Prop} {m low q : Nat} {u : Int} {T : Nat → Int} {rn cn : Nat → Nat} (hm : m ≤ 2) (hu0 : u ≠ 0) (hu : am_B u) (hT : ∀ r c, r < m + 3 + 4 + 1 → (c < 4 ∨ c = 4) → am_B (T (r * 5 + c))) (hrn : ∀ r, r < m + 3 → rn r < 128) (hcn : ∀ c, c < 4 → cn c < 128)
    (hlow : low < m + 3) (hr : rn low = 99) (hrl : ∀ r, r < low → rn r ≠ 99) (hq : q < 3) (hcl : ∀ c, c < q → T (low * 5 + c) = 0) (hc : T (low * 5 + q) ≠ 0)
    (h : post 1 (pr_, wo_, nI (m + 3), tu_, am_L (am_ab (T (low * 5 + q))), nI 3, nI (m + 3), nI 4, wt_, wb_, li_, em_, hh_, ht_, hb_, hl_, lt_, lb_, br_, l3_, g3_, a1, a2, a3, a4, a5, a6, a7, a8, a9, am_lf (am_cl (am_ex T low q u 4 (m + 3 + 5)) q (m + 3 + 4)), am_nf (am_up rn low (cn q)), am_nf (am_up (am_up cn q (rn low)) q (am_up cn q (rn low) 3)), a13, a14, a15, a16, a17, a18, a19)) :
    wX_findPoint_140 post 1 pr_ wo_ (nI (m + 3)) tu_ (am_L u) (nI 4) (nI (m + 3 + 4)) (nI 1) wt_ wb_ li_ em_ hh_ ht_ hb_ hl_ lt_ lb_ br_ l3_ g3_ a1 a2 a3 a4 a5 a6 a7 a8 a9 (am_lf T) (am_nf rn) (am_nf cn) a13 a14 a15 a16 a17 a18 a19 := by
  unfold wX_findPoint_140
  refine am_dropRow (by omega) (by omega) (by omega) hu0 hu hT hrn hcn hlow hr hrl (by omega) hcl (fun _ => hc) ?_
  refine br_f (by decide) (br_f (nI_pos (by omega)) ?_)
  exact am_closeColumn (by omega) hq (by rw [am_upn _ _ (by omega)]; exact hcn 3 (by omega)) ⟨rfl, h⟩
/-- .. not found -/
theorem am_fp0 {post : Int32 → St2 → Prop} {m low q : Nat} {u : Int} {T : Nat → Int} {rn cn : Nat → Nat} (hm : m ≤ 2) (hu0 : u ≠ 0) (hu : am_B u) (hT : ∀ r c, r < m + 3 + 4 + 1 → (c < 4 ∨ c = 4) → am_B (T (r * 5 + c))) (hrn : ∀ r, r < m + 3 → rn r < 128) (hcn : ∀ c, c < 4 → cn c < 128)
    (hlow : low < m + 3) (hr : rn low = 99) (hrl : ∀ r, r < low → rn r ≠ 99) (hq : q < 4) (hcl : ∀ c, c < q → T (low * 5 + c) = 0) (hc : q < 3 → T (low * 5 + q) ≠ 0)
    (h : ∀ u T rn cn, post 0 (pr_, wo_, nI (m + 3), tu_, am_L u, nI 4, nI (m + 3), nI 4, wt_, wb_, li_, em_, hh_, ht_, hb_, hl_, lt_, lb_, br_, l3_, g3_, a1, a2, a3, a4, a5, a6, a7, a8, a9, am_lf T, am_nf rn, am_nf cn, a13, a14, a15, a16, a17, a18, a19)) :
    wX_findPoint_140 post 0 pr_ wo_ (nI (m + 3)) tu_ (am_L u) (nI 4) (nI (m + 3 + 4)) (nI 1) wt_ wb_ li_ em_ hh_ ht_ hb_ hl_ lt_ lb_ br_ l3_ g3_ a1 a2 a3 a4 a5 a6 a7 a8 a9 (am_lf T) (am_nf rn) (am_nf cn) a13 a14 a15 a16 a17 a18 a19 := by
  unfold wX_findPoint_140
  refine am_dropRow (by omega) (by omega) (by omega) hu0 hu hT hrn hcn hlow hr hrl hq hcl hc ?_
  exact br_t rfl ⟨rfl, h _ _ _ _⟩
theorem am_fpt {m low : Nat} {gl o g : Nat → Int} {b bl u : Int} {T : Nat → Int} {rn cn : Nat → Nat} {z : Nat → Int} (hL : am_L1 m low g b gl bl) (h : am_S1 m low g b o gl bl z u T rn cn) : (∀ c, c < 3 → T (low * 5 + c) = -(am_zg gl z c)) ∧ (∀ r, r < low → rn r ≠ 99) ∧ T ((m + 3 + 4) * 5 + 4) = -(am_zE gl bl z) := by
  obtain ⟨z01, hE0, hu, pic, n1, n2, n3, n4, n5⟩ := h
  have l1 := hL.1
  have l2 := hL.2.1
  refine ⟨fun c hc => ?_, fun r hr => ?_, ?_⟩
  · rw [(am_4e pic (by omega) (show c < 4 by omega) (by omega)).1, am_zdc hc, am_zv3, am_e_n (show 3 ≠ c by omega)]; grind
  · rw [n2 r (by omega) (by omega)]; omega
  · rw [(am_4w pic (show 3 < 4 by omega)).2]
    unfold am_zX
    rw [am_zv3, am_e_s]; grind
theorem am_findPoint {post : Int32 → St2 → Prop} {m low : Nat} {g gl o : Nat → Int} {b bl : Int} {T : Nat → Int} {rn cn : Nat → Nat} (hL : am_L1 m low g b gl bl) (hbl : bl < 0) (hs : am_sms (am_F m g b) (am_G o)) (hg : am_s7 gl) (hb6 : bl.natAbs ≤ 600)
    (h1 : ∀ r i, r < m + 3 → i < 3 → T (r * 5 + i) = -(am_F m g b (3 + r) i)) (h2 : ∀ r, r < m + 3 → T (r * 5 + 4) = am_F m g b (3 + r) 4) (h0 : ∀ r, r < m + 3 + 4 → T (r * 5 + 3) = 0)
    (h3 : ∀ w i, w < 4 → i < 3 → T ((m + 3 + w) * 5 + i) = -(am_G o w i)) (h4 : ∀ w, w < 4 → T ((m + 3 + w) * 5 + 4) = am_G o w 4)
    (h5 : ∀ r, r < m + 3 → rn r = 3 + r) (h6 : ∀ c, c < 3 → cn c = c) (hb4 : ∀ r, r < m + 3 → am_B (T (r * 5 + 4))) (hr4 : ∀ r, r < m + 3 → r ≠ low → 0 < T (r * 5 + 4))
    (p0 : ∀ u T' rn' cn', (∃ z, am_z01 gl z ∧ (∀ c, c < 3 → 0 ≤ am_zg gl z c) ∧ 0 < am_zE gl bl z) → post 0 (pr_, wo_, nI (m + 3), tu_, am_L u, nI 4, nI (m + 3), nI 4, wt_, wb_, li_, em_, hh_, ht_, hb_, hl_, lt_, lb_, br_, l3_, g3_, a1, a2, a3, a4, a5, a6, a7, a8, a9, am_lf T', am_nf rn', am_nf cn', a13, a14, a15, a16, a17, a18, a19))
    (p1 : ∀ u T' rn' cn', am_J1 m low g b o gl bl u T' rn' cn' → post 1 (pr_, wo_, nI (m + 3), tu_, am_L u, nI 3, nI (m + 3), nI 4, wt_, wb_, li_, em_, hh_, ht_, hb_, hl_, lt_, lb_, br_, l3_, g3_, a1, a2, a3, a4, a5, a6, a7, a8, a9, am_lf T', am_nf rn', am_nf cn', a13, a14, a15, a16, a17, a18, a19)) :
    wpX_findPoint post (pr_, wo_, nI (m + 3), tu_, am_L 1, nI 3, nI (m + 3), nI 4, wt_, wb_, li_, em_, hh_, ht_, hb_, hl_, lt_, lb_, br_, l3_, g3_, a1, a2, a3, a4, a5, a6, a7, a8, a9, am_lf T, am_nf rn, am_nf cn, a13, a14, a15, a16, a17, a18, a19) := by
  have l1 := hL.1
  have l2 := hL.2.1
  have eR : T (low * 5 + 4) = bl := by rw [h2 low (by omega)]; exact hL.2.2.2.1
  unfold wpX_findPoint
  refine am_lowestRow hb4 (by omega) (by omega) (fun q hq hmin => ?_)
  have eq : q = low := by
    by_cases e : q = low
    · exact e
    · have := hmin low (by omega)
      have := hr4 q hq e
      omega
  subst eq
  refine am_cellx q 4 rfl rfl (by omega) (by omega) ?_
  refine am_lt (T (q * 5 + 4)) 0 (am_BW (hb4 q hq)) am_W0 (fun _ => nm_r (e' := am_nf (am_up cn 3 99)) (am_uN cn 3 99) ?_) (fun z => absurd z (by omega))
  refine pk_loop (fun n r (T1 : Nat → Int) => wX_findPoint_33 post (nI q) pr_ wo_ (nI (m + 3)) tu_ (am_L 1) (nI 4) (nI (m + 3)) (nI 4) wt_ wb_ li_ em_ hh_ ht_ hb_ hl_ lt_ lb_ br_ l3_ g3_ n (nI r) a1 a2 a3 a4 a5 a6 a7 a8 a9 (am_lf T1) (am_nf rn) (am_nf (am_up cn 3 99)) a13 a14 a15 a16 a17 a18 a19) (fun r T1 => (∀ j, (∀ r', r' < r → j ≠ r' * 5 + 3) → T1 j = T j) ∧ ∀ r', r' < r → T1 (r' * 5 + 3) = -1) (m + 3) 0 T (by omega) ⟨fun _ _ => rfl, fun _ z => absurd z (by omega)⟩ ?_ ?_
  rotate_left
  · rintro n r T1 hr ⟨g1, g2⟩ hn
    refine pk_le (m + 3) r (fun z => absurd z (by omega)) (fun _ => ⟨pk_in (r * 5 + 3) 105 (by omega) (am_ix5 r 3), nm_r (e' := am_lf (am_up T1 (r * 5 + 3) (-1))) ?_ (nm_r (nI_1 r) (hn _ ⟨fun j hj => ?_, fun r' hr' => ?_⟩))⟩)
    · rw [am_k3 (r := r) (by omega)]
      exact am_uL _ _ (-1)
    · rw [am_upn _ _ (hj r (by omega))]
      exact g1 j (fun r' hr' => hj r' (by omega))
    · by_cases e : r' = r
      · rw [e, am_ups]
      · rw [am_upn _ _ (by omega)]; exact g2 r' (by omega)
  rintro n T1 ⟨g1, g2⟩
  refine pk_le (m + 3) (m + 3) (fun _ => nm_r (nI_add (m + 3) 4) ?_) (fun z => absurd z (by omega))
  refine pk_loop (fun n c (T2 : Nat → Int) => wX_findPoint_77 post (nI q) pr_ wo_ (nI (m + 3)) tu_ (am_L 1) (nI 4) (nI (m + 3 + 4)) (nI 1) wt_ wb_ li_ em_ hh_ ht_ hb_ hl_ lt_ lb_ br_ l3_ g3_ n (nI c) a1 a2 a3 a4 a5 a6 a7 a8 a9 (am_lf T2) (am_nf rn) (am_nf (am_up cn 3 99)) a13 a14 a15 a16 a17 a18 a19) (fun c T2 => (∀ j, j < (m + 3 + 4) * 5 → T2 j = T1 j) ∧ ∀ c', c' < c → T2 ((m + 3 + 4) * 5 + c') = if c' = 3 then 1 else 0) 5 0 T1 (by omega) ⟨fun _ _ => rfl, fun _ z => absurd z (by omega)⟩ ?_ ?_
  rotate_left
  · rintro n2 c T2 hc ⟨k1, k2⟩ hn
    refine pk_le 5 c (fun z => absurd z (by omega)) (fun _ => ?_)
    have step : ∀ x : Int, x = (if c = 3 then 1 else 0) → wX_findPoint_77 post (nI q) pr_ wo_ (nI (m + 3)) tu_ (am_L 1) (nI 4) (nI (m + 3 + 4)) (nI 1) wt_ wb_ li_ em_ hh_ ht_ hb_ hl_ lt_ lb_ br_ l3_ g3_ n2 (nI (c + 1)) a1 a2 a3 a4 a5 a6 a7 a8 a9 (am_lf (am_up T2 ((m + 3 + 4) * 5 + c) x)) (am_nf rn) (am_nf (am_up cn 3 99)) a13 a14 a15 a16 a17 a18 a19 := by
      intro x hx
      refine hn _ ⟨fun j hj => ?_, fun c' hc' => ?_⟩
      · rw [am_upn _ _ (by omega)]; exact k1 j hj
      · by_cases e : c' = c
        · rw [e, am_ups]; exact hx
        · rw [am_upn _ _ (by omega)]; exact k2 c' (by omega)
    refine pk_eq c 3 (fun z => ⟨pk_in ((m + 3 + 4) * 5 + c) 105 (by omega) (am_ix5 (m + 3 + 4) c), nm_r ?_ (nm_r (nI_1 c) (step 1 (by rw [if_pos z])))⟩) (fun z => ⟨pk_in ((m + 3 + 4) * 5 + c) 105 (by omega) (am_ix5 (m + 3 + 4) c), nm_r ?_ (nm_r (nI_1 c) (step 0 (by rw [if_neg z])))⟩)
    · rw [pk_cl ((m + 3 + 4) * 5 + c) (am_ix5 (m + 3 + 4) c)]
      exact am_uL _ _ 1
    · rw [pk_cl ((m + 3 + 4) * 5 + c) (am_ix5 (m + 3 + 4) c)]
      exact am_uL _ _ 0
  rintro n2 T2 ⟨k1, k2⟩
  refine pk_le 5 5 (fun _ => ?_) (fun z => absurd z (by omega))
  -- the table with the additional column
  have t1 : ∀ r c, r < m + 3 + 4 → c < 5 → c ≠ 3 → T2 (r * 5 + c) = T (r * 5 + c) := fun r c hr hc hc3 => by
    rw [k1 _ (by omega), g1 _ (fun r' hr' => by omega)]
  have t3 : ∀ r, r < m + 3 → T2 (r * 5 + 3) = -1 := fun r hr => by rw [k1 _ (by omega), g2 r hr]
  have t4 : ∀ w, w < 4 → T2 ((m + 3 + w) * 5 + 3) = 0 := fun w hw => by
    rw [k1 _ (by omega), g1 _ (fun r' hr' => by omega), h0 _ (by omega)]
  have S0 := am_P0 (T := T2) (rn := rn) (cn := am_up cn 3 99) (o := o) hL hbl (fun r i hr hi => by rw [t1 r i (by omega) (by omega) (by omega)]; exact h1 r i hr hi) (fun r hr => by rw [t1 r 4 (by omega) (by omega) (by omega)]; exact h2 r hr) t3
    (fun w i hw hi => by rw [t1 (m + 3 + w) i (by omega) (by omega) (by omega)]; exact h3 w i hw hi) (fun w hw => by rw [t1 (m + 3 + w) 4 (by omega) (by omega) (by omega)]; exact h4 w hw) t4 k2 h5 (fun c hc => by rw [am_upn _ _ (by omega)]; exact h6 c hc) (am_ups _ _ _)
  -- its cells are small
  have hT2 : ∀ r c, r < m + 3 + 5 → (c < 4 ∨ c = 4) → am_B (T2 (r * 5 + c)) := by
    have sm : ∀ x : Int, x.natAbs ≤ 600 → am_B x := fun x hx => by unfold am_B; omega
    intro r c hr hc
    refine sm _ ?_
    by_cases er : r < m + 3
    · by_cases e3 : c = 3
      · rw [e3, t3 r er]; omega
      · rw [t1 r c (by omega) (by omega) e3]
        by_cases e4 : c = 4
        · rw [e4, h2 r er]; exact (hs.1 _).2
        · rw [h1 r c er (by omega)]
          have := (hs.1 (3 + r)).1 c (by omega)
          omega
    · by_cases ew : r < m + 3 + 4
      · obtain ⟨w, ew⟩ : ∃ w, r = m + 3 + w := ⟨r - (m + 3), by omega⟩
        subst ew
        by_cases e3 : c = 3
        · rw [e3, t4 w (by omega)]; omega
        · rw [t1 _ c (by omega) (by omega) e3]
          by_cases e4 : c = 4
          · rw [e4, h4 w (by omega)]; exact (hs.2 _).2
          · rw [h3 w c (by omega) (by omega)]
            have := (hs.2 w).1 c (by omega)
            omega
      · rw [show r = m + 3 + 4 by omega, k2 c (by omega)]; split <;> omega
  refine am_exchange (row := q) (col := 3) (last := m + 3 + 5) hT2 (by unfold am_B; omega) (by omega) (by omega) (by omega) (by omega) (by omega) (by omega) (by rw [h5 q hq]; omega) (by rw [am_ups]; omega) (nI_add (m + 3 + 4) 1) ?_
  refine am_climb (fk := m + 3 + 4) (k := 1) (cols := 4) (rows := m + 3) (am_I1 m q g b o gl bl) (by omega) (by omega) (by omega) (by omega) (fun i u T rn cn h => am_I1ok hL hs hg hb6 h) (fun i u T rn cn q' r h _ hq' hp _ hr hpos hlq => am_I1step hL h hq' hp hr hpos hlq) ?_ (Or.inl ⟨_, S0, by simp⟩)
  intro i u T' rn' cn' hI hx
  obtain ⟨hu0, huB, hTB, hrnB, hcnB⟩ := am_I1ok hL hs hg hb6 hI
  refine am_cellx (m + 3 + 4) 4 rfl rfl (by omega) (by omega) ?_
  have hB4 := hTB (m + 3 + 4) 4 (by omega) (Or.inr rfl)
  rcases hI with ⟨z, hS, hi⟩ | ⟨z, q2, hc, hu, pic, hn⟩ | ⟨z, q2, hm, hc, hu, pic, hn⟩
  · have zg := am_I1exit hL hS hi hx
    obtain ⟨r1, r2, r3⟩ := am_fpt hL hS
    have n1 := hS.2.2.2.2.1
    have z01 := hS.1
    have hE := hS.2.1
    refine am_eq (T' ((m + 3 + 4) * 5 + 4)) 0 (am_BW hB4) am_W0 (fun e => ?_) (fun e => ?_)
    · -- at 0: drop it
      rw [r3] at e
      have hE0 : am_zE gl bl z = 0 := by omega
      have ex : ∃ k, k < 3 ∧ am_zg gl z k ≠ 0 := by
        have key : ∃ k, k < 3 ∧ z k = 1 := by
          rcases z01 0 (by omega) with a0 | ⟨a0, _⟩
          · rcases z01 1 (by omega) with a1 | ⟨a1, _⟩
            · rcases z01 2 (by omega) with a2 | ⟨a2, _⟩
              · exfalso
                unfold am_zE am_d3 at hE0
                rw [a0, a1, a2] at hE0
                omega
              · exact ⟨2, by omega, a2⟩
            · exact ⟨1, by omega, a1⟩
          · exact ⟨0, by omega, a0⟩
        obtain ⟨k, hk, ek⟩ := key
        refine ⟨k, hk, ?_⟩
        rcases z01 k hk with a | ⟨a, hn⟩
        · omega
        · unfold am_zg; rw [a]; omega
      obtain ⟨c0, hc0, hne, hl⟩ := am_first (fun k => am_zg gl z k ≠ 0) ex
      refine am_fp3 l2 hu0 huB hTB hrnB hcnB (by omega) n1 r2 hc0 (fun c hc => ?_) (by rw [r1 c0 hc0]; omega) (p1 _ _ _ _ (am_f4 hL hS hc0 hE0 zg hne))
      have := hl c hc
      rw [r1 c (by omega)]
      omega
    · rw [r3] at e
      by_cases ex : ∃ k, k < 3 ∧ am_zg gl z k ≠ 0
      · obtain ⟨c0, hc0, hne, hl⟩ := am_first (fun k => am_zg gl z k ≠ 0) ex
        refine am_fp0 l2 hu0 huB hTB hrnB hcnB (by omega) n1 r2 (show c0 < 4 by omega) (fun c hc => ?_) (fun _ => by rw [r1 c0 hc0]; omega) (fun u T rn cn => p0 u T rn cn ⟨z, z01, zg, by omega⟩)
        have := hl c hc
        rw [r1 c (by omega)]
        omega
      · refine am_fp0 (q := 3) l2 hu0 huB hTB hrnB hcnB (by omega) n1 r2 (by omega) (fun c hc => ?_) (fun z => absurd z (by omega)) (fun u T rn cn => p0 u T rn cn ⟨z, z01, zg, by omega⟩)
        rw [r1 c hc]
        by_cases y : am_zg gl z c = 0
        · omega
        · exact absurd ⟨c, hc, y⟩ ex
  · have e4 : T' ((m + 3 + 4) * 5 + 4) = 0 := by
      rw [(am_4w pic (show 3 < 4 by omega)).2]
      unfold am_X2
      rw [am_zv3, am_e_s, am_e_n (show 3 ≠ q2 by have := hc.2.2.1; omega)]; grind
    refine am_eq (T' ((m + 3 + 4) * 5 + 4)) 0 (am_BW hB4) am_W0 (fun _ => ?_) (fun e => absurd e4 e)
    have J := am_f2 hL hc hu pic hn
    obtain ⟨n1, n2, n3, n4, n5, n6⟩ := hn
    have hq2 := hc.2.2.1
    refine am_fp2 l2 (fun r hr => ?_) hcnB hq2 n4 (fun c hc => ?_) (p1 _ _ _ _ J)
    · by_cases e : r < m
      · by_cases e2 : r = q
        · rw [e2, n1]; omega
        · rw [n2 r e e2]; omega
      · have := n3 (r - m) (by omega)
        rw [show m + (r - m) = r by omega] at this
        rw [this]; split <;> omega
    · rw [n5 c (by omega) (by omega)]; split <;> omega
  · have e4 : T' ((m + 3 + 4) * 5 + 4) = 0 := by
      rw [(am_4w pic (show 3 < 4 by omega)).2]
      unfold am_X2
      rw [am_zv3, am_e_s, am_e_n (show 3 ≠ q2 by have := hc.2.2.1; omega)]; grind
    refine am_eq (T' ((m + 3 + 4) * 5 + 4)) 0 (am_BW hB4) am_W0 (fun _ => ?_) (fun e => absurd e4 e)
    obtain ⟨J, hz, hne⟩ := am_f3 hL hm hc hu pic hn
    obtain ⟨n1, n2, n3, n4, n5, n6⟩ := hn
    have hq2 := hc.2.2.1
    refine am_fp3 l2 hu0 huB hTB hrnB hcnB (by omega) n1 (fun r hr => ?_) hq2 hz hne (p1 _ _ _ _ J)
    rw [show r = 1 - q by omega, n2]; omega
end
end
section
section
variable {pr_ wo_ ro_ tu_ co_ fw_ wc_ li_ em_ hh_ hl_ br_ l3_ g3_ : Int32} {un_ wt_ wb_ ht_ hb_ lt_ lb_ : Int64} {a1 a2 a3 a4 a5 a6 a7 a8 a9 a11 a12 a18 a19 : Nat → Int32} {a10 a13 a14 a15 a16 a17 : Nat → Int64}
/-! reading off -/
theorem am_readOff {post : St2 → Prop} {rows fk t : Nat} {u : Int} {T lo hv tp0 : Nat → Int} {rn : Nat → Nat} (ht : t < 8) (hrows : rows ≤ 16) (hfk : fk < 21) (hrn : ∀ r, r < rows → rn r < 128) (hT : ∀ r, r < rows → (T (r * 5 + 4)).natAbs ≤ 5000000) (hu : u.natAbs ≤ 2058) (hlo : ∀ i, i < 3 → (lo i).natAbs ≤ 20) (hhv : ∀ i, i < 3 → (hv i).natAbs ≤ 20)
    (h : ∀ tp, (∀ i, i < 3 → (tp i).natAbs ≤ 6000000) → post (pr_, wo_, nI rows, nI t, am_L u, co_, nI fk, wc_, am_L (T (fk * 5 + 4)), am_L u, li_, em_, hh_, ht_, hb_, hl_, lt_, lb_, br_, l3_, g3_, a1, a2, a3, a4, am_if lo, am_if hv, a7, a8, a9, am_lf T, am_nf rn, a12, am_lf tp, a14, a15, a16, a17, a18, a19)) :
    wpX_readOff post (pr_, wo_, nI rows, nI t, am_L u, co_, nI fk, wc_, wt_, wb_, li_, em_, hh_, ht_, hb_, hl_, lt_, lb_, br_, l3_, g3_, a1, a2, a3, a4, am_if lo, am_if hv, a7, a8, a9, am_lf T, am_nf rn, a12, am_lf tp0, a14, a15, a16, a17, a18, a19) := by
  unfold wpX_readOff
  refine am_cellx fk 4 rfl rfl hfk (by omega) ?_
  refine pk_loop (fun n i (tp : Nat → Int) => wX_readOff_23 post pr_ wo_ (nI rows) (nI t) (am_L u) co_ (nI fk) wc_ (am_L (T (fk * 5 + 4))) (am_L u) li_ em_ hh_ ht_ hb_ hl_ lt_ lb_ br_ l3_ g3_ n (nI i) a1 a2 a3 a4 (am_if lo) (am_if hv) a7 a8 a9 (am_lf T) (am_nf rn) a12 (am_lf tp) a14 a15 a16 a17 a18 a19) (fun i tp => ∀ i', i' < i → (tp i').natAbs ≤ 6000000) 3 0 tp0 (by omega) (fun _ z => absurd z (by omega)) ?_ ?_
  · intro n tp hI
    exact pk_le 3 3 (fun _ => h tp hI) (fun z => absurd z (by omega))
  · intro n i tp hi hI hn
    refine pk_le 3 i (fun z => absurd z (by omega)) (fun _ => ?_)
    refine pk_loop (fun n2 r (own : Int) => wX_readOff_33 post (wX_readOff_23 post pr_ wo_ (nI rows) (nI t) (am_L u) co_ (nI fk) wc_ (am_L (T (fk * 5 + 4))) (am_L u) li_ em_ hh_ ht_ hb_ hl_ lt_ lb_ br_ l3_ g3_ n) (nI i) pr_ wo_ (nI rows) (nI t) (am_L u) co_ (nI fk) wc_ (am_L (T (fk * 5 + 4))) (am_L u) li_ em_ hh_ ht_ hb_ hl_ lt_ lb_ br_ l3_ g3_ a1 a2 a3 a4 (am_if lo) (am_if hv) a7 a8 a9 (am_lf T) (am_nf rn) a12 (am_lf tp) a14 a15 a16 a17 a18 a19 n2 (am_L own) (nI r)) (fun _ own => own.natAbs ≤ 5000000) rows 0 0 (by omega) (by omega) ?_ ?_
    · intro n2 own ho
      have step : ∀ x : Int, x.natAbs ≤ 6000000 → wX_readOff_23 post pr_ wo_ (nI rows) (nI t) (am_L u) co_ (nI fk) wc_ (am_L (T (fk * 5 + 4))) (am_L u) li_ em_ hh_ ht_ hb_ hl_ lt_ lb_ br_ l3_ g3_ n (nI (i + 1)) a1 a2 a3 a4 (am_if lo) (am_if hv) a7 a8 a9 (am_lf T) (am_nf rn) a12 (am_lf (am_up tp i x)) a14 a15 a16 a17 a18 a19 := by
        intro x hx
        refine hn _ (fun i' hi' => ?_)
        by_cases e : i' = i
        · rw [e, am_ups]; exact hx
        · rw [am_upn _ _ e]; exact hI i' (by omega)
      have bl := am_bm (hlo i hi) hu
      have bh := am_bm (hhv i hi) hu
      have vl : am_V (lo i) := by have := hlo i hi; unfold am_V; omega
      have vh : am_V (hv i) := by have := hhv i hi; unfold am_V; omega
      refine pk_le rows rows (fun _ => am_tub ht (by omega) (fun z => ?_) (fun z => ?_)) (fun z => absurd z (by omega))
      · unfold wX_readOff_87
        refine br_t rfl ⟨pk_in i 3 hi, pk_in i 3 hi, nm_r ?_ (nm_r (nI_1 i) (step (lo i * u + own) (by omega)))⟩
        rw [nI_clamp (by omega)]
        show vp_updL _ _ ((am_I (lo i)).toInt64 * am_L u + am_L own) = _
        rw [am_IL vl, am_Lmul, am_Ladd, am_uL]
      · unfold wX_readOff_87
        refine br_f (by decide) ⟨pk_in i 3 hi, pk_in i 3 hi, nm_r ?_ (nm_r (nI_1 i) (step (hv i * u - own) (by omega)))⟩
        rw [nI_clamp (by omega)]
        show vp_updL _ _ ((am_I (hv i)).toInt64 * am_L u - am_L own) = _
        rw [am_IL vh, am_Lmul, am_Lsub, am_uL]
    · intro n2 r own hr ho hn2
      have hb := hrn r hr
      refine pk_le rows r (fun z => absurd z (by omega)) (fun _ => ⟨pk_in r 16 (by omega), ?_⟩)
      rw [nI_clamp (show r < 2 ^ 31 by omega)]
      refine pk_eq (rn r) i (fun z => am_cellx r 4 rfl rfl (by omega) (by omega) (nm_r (nI_1 r) (hn2 (T (r * 5 + 4)) (hT r hr)))) (fun z => nm_r (nI_1 r) (hn2 own ho)) rfl rfl
/-! the condition, as the engines see it -/
def am_ng (x : Int) : Int := if x < 0 then x else 0
def am_least (g : Nat → Int) : Int := 20 * (am_ng (g 0) + am_ng (g 1) + am_ng (g 2))
def am_none (m : Nat) (g : Nat → Int) (b : Int) : Prop := (1 ≤ m ∧ b < am_least g) ∨ (m = 2 ∧ am_most g < b)
def am_due (m : Nat) (g : Nat → Int) (b : Int) (o : Nat → Int) (V : Int) : Prop := (m = 0 ∧ V = am_most o) ∨ (1 ≤ m ∧ (∀ j, j < 3 → g j = o j) ∧ V = if b < am_most o then b else am_most o) ∨ (m = 1 ∧ (∀ j, j < 3 → g j = -(o j)) ∧ V = am_most o)
end
section
variable {m low : Nat} {g gl o : Nat → Int} {b bl u : Int} {X : Nat → Int} {z : Nat → Int}
/-- a point's parts -/
theorem am_fep (hm : m ≤ 2) (h : am_fe (am_F m g b) m u X) (hX : X 3 = 0) : (∀ i, i < 3 → 0 ≤ X i ∧ X i ≤ 20 * u) ∧ (1 ≤ m → am_d3 g X ≤ u * b) ∧ (m = 2 → u * b ≤ am_d3 g X) := by
  refine ⟨fun i hi => ⟨?_, ?_⟩, fun m1 => ?_, fun m2 => ?_⟩
  · have := h i (by omega)
    rw [(am_Fx m g b X i hi).1, (am_Fx m g b X i hi).2] at this
    omega
  · have := h (3 + m + i) (by omega)
    rw [(am_Fs m g b X i hi).1, (am_Fs m g b X i hi).2, hX] at this
    omega
  · have := h 3 (by omega)
    rw [(am_Ft m1 g b X).1, (am_Ft m1 g b X).2, hX] at this
    omega
  · subst m2
    have := h 4 (by omega)
    rw [(am_Fu g b X).1, (am_Fu g b X).2, hX] at this
    have e : u * -b = -(u * b) := by grind
    omega
theorem am_le1 {x y u : Int} (hy : 0 ≤ y) (hyu : y ≤ 20 * u) : u * (20 * am_ng x) ≤ x * y ∧ x * y ≤ u * (20 * am_ps x) := by
  unfold am_ng am_ps
  rcases Int.lt_trichotomy x 0 with h | h | h
  · rw [if_pos h, if_neg (by omega)]
    have a : x * (20 * u) ≤ x * y := Int.mul_le_mul_of_nonpos_left (show x ≤ 0 by omega) hyu
    have b2 := Int.mul_nonpos_of_nonpos_of_nonneg (show x ≤ 0 by omega) hy
    have e : u * (20 * x) = x * (20 * u) := by grind
    omega
  · subst h
    simp
  · rw [if_neg (by omega), if_pos h]
    have a := Int.mul_le_mul_of_nonneg_left (c := x) hyu (by omega)
    have b2 := Int.mul_nonneg (show 0 ≤ x by omega) hy
    have e : u * (20 * x) = x * (20 * u) := by grind
    omega
theorem am_box (h : ∀ i, i < 3 → 0 ≤ X i ∧ X i ≤ 20 * u) : u * am_least o ≤ am_d3 o X ∧ am_d3 o X ≤ u * am_most o := by
  have h0 := am_le1 (x := o 0) (h 0 (by omega)).1 (h 0 (by omega)).2
  have h1 := am_le1 (x := o 1) (h 1 (by omega)).1 (h 1 (by omega)).2
  have h2 := am_le1 (x := o 2) (h 2 (by omega)).1 (h 2 (by omega)).2
  have e1 : u * am_least o = u * (20 * am_ng (o 0)) + u * (20 * am_ng (o 1)) + u * (20 * am_ng (o 2)) := by unfold am_least; grind
  have e2 : u * am_most o = u * (20 * am_ps (o 0)) + u * (20 * am_ps (o 1)) + u * (20 * am_ps (o 2)) := by unfold am_most; grind
  unfold am_d3
  omega
theorem am_pn {x : Int} : am_ps (-x) = -(am_ng x) := by
  unfold am_ps am_ng
  by_cases h : x < 0
  · rw [if_pos (by omega), if_pos h]
  · rw [if_neg (by omega), if_neg h]; rfl
theorem am_mn {g o : Nat → Int} (h : ∀ j, j < 3 → g j = -(o j)) : am_most g = -(am_least o) := by
  unfold am_most am_least
  rw [h 0 (by omega), h 1 (by omega), h 2 (by omega), am_pn, am_pn, am_pn]; omega
theorem am_lm {g o : Nat → Int} (h : ∀ j, j < 3 → g j = -(o j)) : am_least g = -(am_most o) := by
  have := am_mn (g := o) (o := g) (fun j hj => by have := h j hj; omega)
  omega
theorem am_mp {g o : Nat → Int} (h : ∀ j, j < 3 → g j = o j) : am_most g = am_most o ∧ am_least g = am_least o := by
  unfold am_most am_least
  rw [h 0 (by omega), h 1 (by omega), h 2 (by omega)]; exact ⟨rfl, rfl⟩
theorem am_ml {u a b : Int} (hu : 0 < u) (h : u * a ≤ u * b) : a ≤ b := Int.le_of_mul_le_mul_left h hu
/-- a point: not none -/
theorem am_notnone (hm : m ≤ 2) (hu : 0 < u) (h : am_fe (am_F m g b) m u X) (hX : X 3 = 0) : ¬ am_none m g b := by
  obtain ⟨h1, h2, h3⟩ := am_fep hm h hX
  have bx := am_box (o := g) h1
  rintro (⟨m1, hb⟩ | ⟨m2, hb⟩)
  · have := am_ml hu (Int.le_trans bx.1 (h2 m1))
    omega
  · have := am_ml hu (Int.le_trans (h3 m2) bx.2)
    omega
/-- the worth of the last table -/
def am_C (m : Nat) (g : Nat → Int) (b : Int) (o : Nat → Int) : Prop := m = 2 ∨ (m = 1 ∧ (∀ j, j < 3 → g j = -(o j)) ∧ am_most o ≤ -b)
theorem am_worth (hm : m ≤ 2) (hk : am_hk m g o) (hu : 0 < u) (h : am_fe (am_F m g b) m u X) (hX : X 3 = 0)
    (hW : am_d3 o X = u * am_most o ∨ (1 ≤ m ∧ (∀ j, j < 3 → g j = o j) ∧ am_d3 o X = u * b) ∨ am_C m g b o) : ∃ V, am_due m g b o V ∧ am_d3 o X = u * V := by
  obtain ⟨h1, h2, h3⟩ := am_fep hm h hX
  have bx := am_box (o := o) h1
  rcases hk with z | ⟨m1, z⟩ | ⟨m1, z⟩
  · refine ⟨am_most o, Or.inl ⟨z, rfl⟩, ?_⟩
    rcases hW with w | ⟨w, _⟩ | (w | ⟨w, _⟩)
    · exact w
    · omega
    · omega
    · omega
  · have g2 := h2 m1
    rw [am_d3p z] at g2
    refine ⟨_, Or.inr (Or.inl ⟨m1, z, rfl⟩), ?_⟩
    have ub : am_d3 o X = u * b ∨ am_d3 o X = u * am_most o := by
      rcases hW with w | ⟨_, _, w⟩ | (w | ⟨w, w2, _⟩)
      · exact Or.inr w
      · exact Or.inl w
      · have g3 := h3 w
        rw [am_d3p z] at g3
        left; omega
      · -- numbers that are their own negatives
        have zz : ∀ j, j < 3 → o j = 0 := fun j hj => by have := z j hj; have := w2 j hj; omega
        right
        have : am_d3 o X = 0 := by unfold am_d3; rw [zz 0 (by omega), zz 1 (by omega), zz 2 (by omega)]; omega
        have e : am_most o = 0 := by unfold am_most am_ps; rw [zz 0 (by omega), zz 1 (by omega), zz 2 (by omega)]; rfl
        rw [this, e]; omega
    rcases ub with w | w
    · by_cases c : b < am_most o
      · rw [if_pos c]; exact w
      · rw [if_neg c]
        rw [w] at bx
        have := am_ml hu bx.2
        rw [w, show b = am_most o by omega]
    · rw [w] at g2
      have := am_ml hu g2
      rw [if_neg (by omega)]; exact w
  · refine ⟨am_most o, Or.inr (Or.inr ⟨m1, z, rfl⟩), ?_⟩
    rcases hW with w | ⟨_, w2, _⟩ | (w | ⟨_, _, w⟩)
    · exact w
    · have zz : ∀ j, j < 3 → o j = 0 := fun j hj => by have := z j hj; have := w2 j hj; omega
      have : am_d3 o X = 0 := by unfold am_d3; rw [zz 0 (by omega), zz 1 (by omega), zz 2 (by omega)]; omega
      have e : am_most o = 0 := by unfold am_most am_ps; rw [zz 0 (by omega), zz 1 (by omega), zz 2 (by omega)]; rfl
      rw [this, e]; omega
    · omega
    · have g2 := h2 (by omega)
      rw [am_d3n z] at g2
      have a : u * am_most o ≤ u * -b := Int.mul_le_mul_of_nonneg_left w (by omega)
      have e : u * -b = -(u * b) := by grind
      omega
/-- which amounts count: exactly those below 0 -/
theorem am_zl (hz : am_z01 gl z) (h : ∀ c, c < 3 → 0 ≤ am_zg gl z c) : 20 * am_d3 gl z = am_least gl := by
  have key : ∀ c, c < 3 → gl c * z c = am_ng (gl c) := by
    intro c hc
    have := h c hc
    unfold am_zg at this
    unfold am_ng
    rcases hz c hc with e | ⟨e, hn⟩
    · rw [e] at this ⊢
      rw [if_neg (by omega)]; omega
    · rw [e, if_pos hn]; omega
  unfold am_d3 am_least
  rw [key 0 (by omega), key 1 (by omega), key 2 (by omega)]
/-- where the second climb begins, behind the first -/
theorem am_J1Ty {T : Nat → Int} {rn cn : Nat → Nat} (hk : am_hk m g o) (hl : (low = 0 ∧ gl = g ∧ bl = b) ∨ (low = 1 ∧ m = 2)) (hlm : low < m) (h : am_J1 m low g b o gl bl u T rn cn) : am_I2 m g b o (am_C m g b o) 0 u T rn cn := by
  obtain ⟨X, d, z, q, hQ, hN, hf, hz, hq, hcq, hc, hlast⟩ := h
  refine ⟨X, d, hQ, hN, hf, ?_⟩
  rcases hl with ⟨e0, eg, eb⟩ | ⟨_, m2⟩
  · subst e0 eg eb
    rcases hk with y | ⟨m1, y⟩ | ⟨m1, y⟩
    · omega
    · exact Or.inr (Or.inl ⟨m1, y, q, hq, hcq⟩)
    · rcases hlast with ⟨hg, hzq⟩ | ⟨hE, hall⟩
      · refine Or.inr (Or.inr (Or.inl ⟨m1, y, ⟨q, hq, by have := y q hq; omega, fun c hc3 => ?_, ⟨q, hq, hcq⟩, fun i hi hiq => ⟨i, hi, ?_⟩⟩, by have := am_mu_le cn; omega⟩))
        · by_cases e : c = q
          · left; rw [e]; exact hcq
          · right
            refine ⟨c, hc3, e, ?_⟩
            rcases hz c hc3 with w | ⟨w, hn⟩
            · left; rw [hc c hc3 e, if_neg (by omega)]
            · right
              rw [hc c hc3 e, if_pos w]
              exact ⟨by omega, by have := y c hc3; omega⟩
        · rw [hc i hi hiq]
          by_cases w : z i = 1
          · right; rw [if_pos w]; omega
          · left; rw [if_neg w]
      · refine Or.inr (Or.inr (Or.inr (Or.inr ⟨m1, y, ?_⟩)))
        have a := am_zl hz hall
        have a2 := am_lm y
        unfold am_zE at hE
        omega
  · exact Or.inr (Or.inr (Or.inr (Or.inl m2)))
end
end
section
/-! rows as forms, counted up or down -/
theorem am_bd3 (t : Nat) (lo hv n : Nat → Int) (B : Int) : am_bd t lo hv n B 3 = B - n 0 * am_fr t lo hv 0 - n 1 * am_fr t lo hv 1 - n 2 * am_fr t lo hv 2 := rfl
theorem am_R2F {t : Nat} {N Bd lo hv R Q : Nat → Int} {kd : Int} {inc : Bool} (hkd : kd = 0 ∨ kd = 1 ∨ kd = 2) (hlh : ∀ i, i < 3 → hv i - lo i = 20)
    (r1 : ∀ r i, r < am_mk inc kd → i < 3 → R (r * 3 + i) = am_sw t (fun i => am_sgn kd r * N (0 * 3 + i)) i) (r2 : ∀ r, r < am_mk inc kd → Q r = am_bd t lo hv (fun i => am_sgn kd r * N (0 * 3 + i)) (am_sgn kd r * Bd 0) 3)
    (r3 : ∀ i j, i < 3 → j < 3 → R ((am_mk inc kd + i) * 3 + j) = if i = j then 1 else 0) (r4 : ∀ i, i < 3 → Q (am_mk inc kd + i) = hv i - lo i) :
    (∀ r i, r < am_mk inc kd + 3 → i < 3 → R (r * 3 + i) = -(am_F (am_mk inc kd) (am_sw t (fun i => am_sgn kd 0 * N i)) (am_bd t lo hv (fun i => am_sgn kd 0 * N i) (am_sgn kd 0 * Bd 0) 3) (3 + r) i)) ∧
    (∀ r, r < am_mk inc kd + 3 → Q r = am_F (am_mk inc kd) (am_sw t (fun i => am_sgn kd 0 * N i)) (am_bd t lo hv (fun i => am_sgn kd 0 * N i) (am_sgn kd 0 * Bd 0) 3) (3 + r) 4) := by
  have m2 : am_mk inc kd ≤ 2 := by unfold am_mk; split <;> (try split) <;> omega
  have e0 : ∀ r, (fun i => am_sgn kd r * N (0 * 3 + i)) = fun i => am_sgn kd r * N i := by
    intro r; funext i; rw [Nat.zero_mul, Nat.zero_add]
  have k1 : 1 < am_mk inc kd → kd = 1 := by
    intro h
    unfold am_mk at h
    split at h
    · split at h <;> omega
    · omega
  have sg : kd = 1 → am_sgn kd 1 = -(am_sgn kd 0) := by
    intro e; subst e; rfl
  constructor
  · intro r i hr hi
    by_cases e : r < am_mk inc kd
    · rw [r1 r i e hi, e0]
      by_cases z : r = 0
      · subst z
        unfold am_F
        rw [if_neg (by omega), if_pos (by omega), if_pos hi, if_pos rfl]; omega
      · have z1 : r = 1 := by omega
        subst z1
        unfold am_F
        rw [if_neg (by omega), if_pos (by omega), if_pos hi, if_neg (by omega)]
        unfold am_sw
        rw [sg (k1 e)]
        split
        · grind
        · grind
    · have := r3 (r - am_mk inc kd) i (by omega) hi
      rw [show am_mk inc kd + (r - am_mk inc kd) = r by omega] at this
      by_cases z : r - am_mk inc kd = i
      · rw [if_pos z] at this
        rw [this]
        unfold am_F
        rw [if_neg (by omega), if_neg (by omega), if_pos (by omega), if_pos hi, if_pos (by omega)]; rfl
      · rw [if_neg z] at this
        rw [this]
        unfold am_F
        rw [if_neg (by omega), if_neg (by omega), if_pos (by omega), if_pos hi, if_neg (by omega)]; rfl
  · intro r hr
    by_cases e : r < am_mk inc kd
    · rw [r2 r e, e0]
      by_cases z : r = 0
      · subst z
        unfold am_F
        rw [if_neg (by omega), if_pos (by omega), if_neg (by omega), if_neg (by omega), if_pos rfl]
      · have z1 : r = 1 := by omega
        subst z1
        unfold am_F
        rw [if_neg (by omega), if_pos (by omega), if_neg (by omega), if_neg (by omega), if_neg (by omega), am_bd3, am_bd3, sg (k1 e)]
        grind
    · have := r4 (r - am_mk inc kd) (by omega)
      rw [show am_mk inc kd + (r - am_mk inc kd) = r by omega] at this
      rw [this, hlh _ (by omega)]
      unfold am_F
      rw [if_neg (by omega), if_neg (by omega), if_pos (by omega), if_neg (by omega), if_neg (by omega)]
theorem am_sw0 (n : Nat → Int) (i : Nat) : am_sw 0 n i = n i := by
  unfold am_sw
  rw [if_pos (by rw [Nat.zero_div])]
theorem am_fr0 (lo hv : Nat → Int) (i : Nat) : am_fr 0 lo hv i = lo i := by
  unfold am_fr
  rw [if_pos (by rw [Nat.zero_div])]
theorem am_bd0 {lo hv n : Nat → Int} {B : Int} (h : ∀ i, i < 3 → lo i = 0) : am_bd 0 lo hv n B 3 = B := by
  rw [am_bd3, am_fr0, am_fr0, am_fr0, h 0 (by omega), h 1 (by omega), h 2 (by omega)]; omega
theorem am_G0w {As : Nat → Int} {w i : Nat} (hw : w < 4) (hi : i < 3) : am_G As w i = am_nw As w i := by
  unfold am_G am_nw
  by_cases e : w = 0
  · rw [if_pos e, if_pos e, if_pos hi]
  · rw [if_neg e, if_neg e, if_pos hw]
    by_cases z : i + 1 = w
    · rw [if_pos z, if_pos z.symm]
    · rw [if_neg z, if_neg (fun y => z y.symm)]
theorem am_G0k {As : Nat → Int} {w : Nat} (hw : w < 4) : am_G As w 4 = 0 := by
  unfold am_G
  by_cases e : w = 0
  · rw [if_pos e]; rfl
  · rw [if_neg e, if_pos hw, if_neg (by omega)]
/-- numbers of the condition -/
def am_cg (kd : Int) (N : Nat → Int) : Nat → Int := fun i => am_sgn kd 0 * N i
theorem am_sgn1 (kd : Int) (r : Nat) : am_sgn kd r = 1 ∨ am_sgn kd r = -1 := by
  unfold am_sgn
  split
  · right; rfl
  · split
    · left; rfl
    · right; rfl
theorem am_cg7 {kd : Int} {N : Nat → Int} (h : am_s7 N) : am_s7 (am_cg kd N) := by
  intro j hj
  have := h j hj
  unfold am_cg
  rcases am_sgn1 kd 0 with e | e <;> rw [e] <;> omega
/-- what an engine answers: whether there is a point, and the worth as a fraction -/
def am_res (m : Nat) (g : Nat → Int) (b : Int) (o : Nat → Int) (r : Int32) (x y : Int64) : Prop :=
  (r = 0 ∧ am_none m g b) ∨ (r = 1 ∧ ¬ am_none m g b ∧ ∃ u V, 0 < u ∧ u ≤ 2058 ∧ am_due m g b o V ∧ x = am_L (u * V) ∧ y = am_L u)
section
variable {pr_ wo_ ro_ tu_ co_ fw_ wc_ li_ em_ hh_ hl_ br_ l3_ g3_ : Int32} {un_ wt_ wb_ ht_ hb_ lt_ lb_ : Int64} {a1 a2 a3 a4 a5 a6 a7 a8 a9 a11 a12 a18 a19 : Nat → Int32} {a10 a13 a14 a15 a16 a17 : Nat → Int64}
/-- the second climb and the reading off -/
theorem am_sp2 {post : Int32 → St2 → Prop} {m : Nat} {g o : Nat → Int} {b u : Int} {T tp lo hv : Nat → Int} {rn cn : Nat → Nat} (hm : m ≤ 2) (hk : am_hk m g o) (hs : am_sms (am_F m g b) (am_G o)) (hlo : ∀ i, i < 3 → lo i = 0) (hhv : ∀ i, i < 3 → hv i = 20)
    (hI : am_I2 m g b o (am_C m g b o) 0 u T rn cn)
    (h : ∀ u T rn cn tp x y, am_res m g b o 1 x y → post 1 (pr_, wo_, nI (m + 3), nI 0, am_L u, nI 3, nI (m + 3), nI 4, x, y, li_, em_, hh_, ht_, hb_, hl_, lt_, lb_, br_, l3_, g3_, a1, a2, a3, a4, am_if lo, am_if hv, a7, a8, a9, am_lf T, am_nf rn, am_nf cn, am_lf tp, a14, a15, a16, a17, a18, a19)) :
    wpX_climb (fun u => wpX_readOff (post 1) u) (pr_, wo_, nI (m + 3), nI 0, am_L u, nI 3, nI (m + 3), nI 4, wt_, wb_, li_, em_, hh_, ht_, hb_, hl_, lt_, lb_, br_, l3_, g3_, a1, a2, a3, a4, am_if lo, am_if hv, a7, a8, a9, am_lf T, am_nf rn, am_nf cn, am_lf tp, a14, a15, a16, a17, a18, a19) := by
  have ok : ∀ i u T rn cn, am_I2 m g b o (am_C m g b o) i u T rn cn → u ≠ 0 ∧ am_B u ∧ (∀ r c, r < m + 3 + 4 → (c < 3 ∨ c = 4) → am_B (T (r * 5 + c))) ∧ (∀ r, r < m + 3 → rn r < 128) ∧ (∀ c, c < 3 → cn c < 128) := by
    rintro i u T rn cn ⟨X, d, hQ, hN, _, _⟩
    obtain ⟨b1, b2, b3⟩ := am_Qb hQ hs
    have hu := hQ.2.2.2.1
    refine ⟨by omega, by unfold am_B; omega, fun r c hr hc => ?_, fun r hr => ?_, fun c hc => ?_⟩
    · have := b1 r c hr hc
      unfold am_B; omega
    · have := hN.1 r hr; omega
    · have := hN.2.1 c hc; omega
  refine am_climb (fk := m + 3) (k := 4) (cols := 3) (rows := m + 3) (am_I2 m g b o (am_C m g b o)) (by omega) (by omega) (by omega) (by omega) ok (fun i u T rn cn q r h _ hq hp hl hr hpos hlq => am_I2step hm hk h hq hp hl hr hpos hlq) ?_ hI
  rintro i u T rn cn ⟨X, d, hQ, hN, hf, hT⟩ hx
  have hW := am_I2exit hm hQ hN hT hx
  obtain ⟨b1, b2, b3⟩ := am_Qb hQ hs
  have hu := hQ.2.2.2.1
  obtain ⟨V, hV, eV⟩ := am_worth hm hk hu hf hQ.2.1 hW
  refine am_readOff (by omega) (by omega) (by omega) (fun r hr => by have := hN.1 r hr; omega) (fun r hr => b1 r 4 (by omega) (Or.inr rfl)) b2 (fun i hi => by rw [hlo i hi]; omega) (fun i hi => by rw [hhv i hi]; omega) (fun tp htp => h u T rn cn tp _ _ (Or.inr ⟨rfl, am_notnone hm hu hf hQ.2.1, u, V, hu, by omega, hV, ?_, rfl⟩))
  rw [am_wX hQ, eV]
theorem am_findPoint1 {post : Int32 → St2 → Prop} {rows : Nat} {T : Nat → Int} (hr : rows ≤ 16) (hr1 : 1 ≤ rows) (hb : ∀ r, r < rows → am_B (T (r * 5 + 4))) (hp : ∀ r, r < rows → 0 ≤ T (r * 5 + 4)) (h : post 1 (pr_, wo_, nI rows, tu_, un_, co_, fw_, wc_, wt_, wb_, li_, em_, hh_, ht_, hb_, hl_, lt_, lb_, br_, l3_, g3_, a1, a2, a3, a4, a5, a6, a7, a8, a9, am_lf T, a11, a12, a13, a14, a15, a16, a17, a18, a19)) : wpX_findPoint post (pr_, wo_, nI rows, tu_, un_, co_, fw_, wc_, wt_, wb_, li_, em_, hh_, ht_, hb_, hl_, lt_, lb_, br_, l3_, g3_, a1, a2, a3, a4, a5, a6, a7, a8, a9, am_lf T, a11, a12, a13, a14, a15, a16, a17, a18, a19) := by
  unfold wpX_findPoint
  refine am_lowestRow hb hr hr1 (fun q hq _ => am_cellx q 4 rfl rfl (by omega) (by omega) ?_)
  exact am_lt (T (q * 5 + 4)) 0 (am_BW (hb q hq)) am_W0 (fun z => absurd (hp q hq) (by omega)) (fun _ => h)
theorem am_solveByPoints {post : Int32 → St2 → Prop} {rows t cc ff ww : Nat} {u : Int} {R Q T tp : Nat → Int} {rn cn : Nat → Nat} {P : Nat} {w : Int} {N Kd Bd lo hv As : Nat → Int} {inc : Bool} (hP : P < 2) (hw : w = 0 ∨ w = -1) (hinc : inc = true ↔ (P = 1 ∧ w = -1)) (hkd : Kd 0 = 0 ∨ Kd 0 = 1 ∨ Kd 0 = 2)
    (hN : am_s7 N) (hB : (Bd 0).natAbs ≤ 128) (hlo : ∀ i, i < 3 → lo i = 0) (hhv : ∀ i, i < 3 → hv i = 20) (hAs : am_s7 As) (hk : am_hk (am_mk inc (Kd 0)) (am_cg (Kd 0) N) As)
    (h : ∀ r x y, am_res (am_mk inc (Kd 0)) (am_cg (Kd 0) N) (am_sgn (Kd 0) 0 * Bd 0) As r x y → ∀ (rows t cc ff ww : Nat) (u : Int) (R Q T tp : Nat → Int) (rn cn : Nat → Nat), post r (nI P, am_I w, nI rows, nI t, am_L u, nI cc, nI ff, nI ww, x, y, li_, em_, hh_, ht_, hb_, hl_, lt_, lb_, br_, l3_, g3_, am_if N, am_if Kd, am_if Bd, a4, am_if lo, am_if hv, am_if As, am_if R, am_if Q, am_lf T, am_nf rn, am_nf cn, am_lf tp, a14, a15, a16, a17, a18, a19)) :
    wpX_solveByPoints post (nI P, am_I w, nI rows, nI t, am_L u, nI cc, nI ff, nI ww, wt_, wb_, li_, em_, hh_, ht_, hb_, hl_, lt_, lb_, br_, l3_, g3_, am_if N, am_if Kd, am_if Bd, a4, am_if lo, am_if hv, am_if As, am_if R, am_if Q, am_lf T, am_nf rn, am_nf cn, am_lf tp, a14, a15, a16, a17, a18, a19) := by
  unfold wpX_solveByPoints
  have m2 : am_mk inc (Kd 0) ≤ 2 := by unfold am_mk; split <;> (try split) <;> omega
  have hlh : ∀ i, i < 3 → hv i - lo i = 20 := fun i hi => by rw [hlo i hi, hhv i hi]; rfl
  refine am_writeRows (t := 0) hP (by omega) hw hinc hkd (fun R' Q' r1 r2 r3 r4 => ?_)
  obtain ⟨f1, f2⟩ := am_R2F hkd hlh r1 r2 r3 r4
  have eg : am_sw 0 (fun i => am_sgn (Kd 0) 0 * N i) = am_cg (Kd 0) N := by funext i; exact am_sw0 _ i
  have eb : am_bd 0 lo hv (fun i => am_sgn (Kd 0) 0 * N i) (am_sgn (Kd 0) 0 * Bd 0) 3 = am_sgn (Kd 0) 0 * Bd 0 := am_bd0 hlo
  rw [eg, eb] at f1 f2
  have hb : (am_sgn (Kd 0) 0 * Bd 0).natAbs ≤ 128 := by
    rcases am_sgn1 (Kd 0) 0 with e | e <;> rw [e] <;> omega
  generalize am_sgn (Kd 0) 0 * Bd 0 = b at f1 f2 hb h
  generalize am_mk inc (Kd 0) = m at f1 f2 m2 hk h
  have hg := am_cg7 (kd := Kd 0) hN
  generalize am_cg (Kd 0) N = g at f1 f2 hk h hg
  have hs : am_sms (am_F m g b) (am_G As) := ⟨am_Fsm hg (by omega), am_Gsm hAs⟩
  have smF : ∀ v j, j < 5 → j ≠ 3 → (am_F m g b v j).natAbs ≤ 600 := by
    intro v j hj hj3
    by_cases e : j = 4
    · rw [e]; exact (hs.1 v).2
    · have := (hs.1 v).1 j (by omega); omega
  refine am_setUp (by omega) (by omega) hAs (fun i hi => by rw [hlo i hi]; omega) (fun i hi => by rw [hhv i hi]; omega) (fun r i hr hi => ?_) (fun r hr => ?_) (fun T' rn' cn' t1 t2 t3 t4 t5 t6 t7 _ => ?_)
  · have := smF (3 + r) i (by omega) (by omega)
    rw [f1 r i hr hi]; unfold am_V; omega
  · have := smF (3 + r) 4 (by omega) (by omega)
    rw [f2 r hr]; unfold am_V; omega
  have q1 : ∀ r i, r < m + 3 → i < 3 → T' (r * 5 + i) = -(am_F m g b (3 + r) i) := fun r i hr hi => by rw [t1 r i hr hi, f1 r i hr hi]
  have q2 : ∀ r, r < m + 3 → T' (r * 5 + 4) = am_F m g b (3 + r) 4 := fun r hr => by rw [t2 r hr, f2 r hr]
  have q3 : ∀ w i, w < 4 → i < 3 → T' ((m + 3 + w) * 5 + i) = -(am_G As w i) := fun w i hw hi => by rw [t4 w i hw hi, am_sw0, am_G0w hw hi]
  have q4 : ∀ w, w < 4 → T' ((m + 3 + w) * 5 + 4) = am_G As w 4 := fun w hw => by rw [t5 w hw, am_bd0 hlo, am_G0k hw]; rfl
  have b4 : ∀ r, r < m + 3 → am_B (T' (r * 5 + 4)) := fun r hr => by
    have := smF (3 + r) 4 (by omega) (by omega)
    rw [q2 r hr]; unfold am_B; omega
  have box4 : ∀ i, i < 3 → T' ((m + i) * 5 + 4) = 20 := fun i hi => by
    rw [q2 (m + i) (by omega), show 3 + (m + i) = 3 + m + i by omega, (am_Fs m g b g i hi).2]
  have fin : ∀ u T rn cn, am_I2 m g b As (am_C m g b As) 0 u T rn cn → wpX_climb (fun u => wpX_readOff (post 1) u) (nI P, am_I w, nI (m + 3), nI 0, am_L u, nI 3, nI (m + 3), nI 4, wt_, wb_, li_, em_, hh_, ht_, hb_, hl_, lt_, lb_, br_, l3_, g3_, am_if N, am_if Kd, am_if Bd, a4, am_if lo, am_if hv, am_if As, am_if R', am_if Q', am_lf T, am_nf rn, am_nf cn, am_lf tp, a14, a15, a16, a17, a18, a19) :=
    fun u T rn cn hI => am_sp2 m2 hk hs hlo hhv hI (fun u T rn cn tp x y hr => h 1 x y hr _ _ _ _ _ _ _ _ _ _ _ _)
  by_cases pos : ∀ r, r < m + 3 → 0 ≤ T' (r * 5 + 4)
  · -- a point at once
    refine am_findPoint1 (by omega) (by omega) b4 pos (br_f (by decide) (fin 1 T' rn' cn' ⟨fun _ => 0, am_e, am_Q0 q1 q2 q3 q4 t6 t7, am_N0 t6 t7, ?_, Or.inl ⟨⟨fun c hc => ⟨c, hc, Or.inl (t7 c hc)⟩, fun i hi => ⟨i, hi, Or.inl (t7 i hi)⟩⟩, by have := am_mu_le cn'; omega⟩⟩))
    intro v hv
    rw [am_dot0]
    by_cases e : v < 3
    · rw [(am_Fx m g b g v e).2]; omega
    · have := pos (v - 3) (by omega)
      rw [q2 _ (by omega), show 3 + (v - 3) = v by omega] at this
      omega
  · -- which condition is broken
    have br : ∃ r, r < m ∧ T' (r * 5 + 4) < 0 := by
      refine Classical.byContradiction (fun hn => pos (fun r hr => ?_))
      by_cases e : r < m
      · rcases Int.lt_or_le (T' (r * 5 + 4)) 0 with y | y
        · exact absurd ⟨r, e, y⟩ hn
        · exact y
      · have := box4 (r - m) (by omega)
        rw [show m + (r - m) = r by omega] at this
        omega
    obtain ⟨low, hl, hneg⟩ := br
    have run : ∀ gl bl, am_L1 m low g b gl bl → bl < 0 → am_s7 gl → bl.natAbs ≤ 600 → (∀ r, r < m → r ≠ low → 0 < T' (r * 5 + 4)) → ((low = 0 ∧ gl = g ∧ bl = b) ∨ (low = 1 ∧ m = 2)) → (bl < am_least gl → am_none m g b) →
        wpX_findPoint (fun r u => (r = 0 → post 0 u) ∧ (¬ r = 0 → wpX_climb (fun u => wpX_readOff (post 1) u) u)) (nI P, am_I w, nI (m + 3), nI 0, am_L 1, nI 3, nI (m + 3), nI 4, wt_, wb_, li_, em_, hh_, ht_, hb_, hl_, lt_, lb_, br_, l3_, g3_, am_if N, am_if Kd, am_if Bd, a4, am_if lo, am_if hv, am_if As, am_if R', am_if Q', am_lf T', am_nf rn', am_nf cn', am_lf tp, a14, a15, a16, a17, a18, a19) := by
      intro gl bl hL hbl hgl hbl6 hoth hlow hnone
      refine am_findPoint hL hbl hs hgl hbl6 q1 q2 t3 q3 q4 t6 t7 b4 (fun r hr hrl => ?_) (fun u T rn cn hz => br_t rfl (h 0 wt_ wb_ (Or.inl ⟨rfl, hnone ?_⟩) _ _ _ _ _ _ _ _ _ _ _ _)) (fun u T rn cn hJ => br_f (by decide) (fin u T rn cn (am_J1Ty hk hlow hl hJ)))
      · by_cases e : r < m
        · exact hoth r e hrl
        · have := box4 (r - m) (by omega)
          rw [show m + (r - m) = r by omega] at this
          omega
      · obtain ⟨z, z01, zg, hE⟩ := hz
        have := am_zl z01 zg
        unfold am_zE at hE
        omega
    have e0 : 1 ≤ m → T' (0 * 5 + 4) = b := fun m1 => by rw [q2 0 (by omega)]; exact (am_Ft m1 g b g).2
    have e1 : m = 2 → T' (1 * 5 + 4) = -b := fun m2 => by subst m2; rw [q2 1 (by omega)]; exact (am_Fu g b g).2
    have l01 : low = 0 ∨ low = 1 := by omega
    rcases l01 with e | e
    · subst e
      rw [e0 (by omega)] at hneg
      exact run g b (am_L1a (by omega) m2 g b) hneg hg (by omega) (fun r hr hr0 => by
        have er : r = 1 := by omega
        subst er
        rw [e1 (by omega)]; omega) (Or.inl ⟨rfl, rfl, rfl⟩) (fun y => Or.inl ⟨by omega, y⟩)
    · subst e
      have hm2 : m = 2 := by omega
      rw [e1 hm2] at hneg
      refine run (fun j => -(g j)) (-b) (by subst hm2; exact am_L1b g b) hneg (fun j hj => by have := hg j hj; show (-(g j)).natAbs ≤ 7; omega) (by omega) (fun r hr hr0 => by
        have er : r = 0 := by omega
        subst er
        rw [e0 (by omega)]; omega) (Or.inr ⟨rfl, hm2⟩) (fun y => Or.inr ⟨hm2, ?_⟩)
      have := am_lm (g := fun j => -(g j)) (o := g) (fun _ _ => rfl)
      omega
end
end
section
/-! from the side of the worth: which states there are -/
def am_lw (m low : Nat) (g : Nat → Int) (b : Int) (gl : Nat → Int) (bl : Int) : Prop := (low = 0 ∧ 1 ≤ m ∧ gl = g ∧ bl = b) ∨ (low = 1 ∧ m = 2 ∧ (gl = fun j => -(g j)) ∧ bl = -b)
theorem am_lwL {m low : Nat} {g gl : Nat → Int} {b bl : Int} (hm : m ≤ 2) (h : am_lw m low g b gl bl) : am_L1 m low g b gl bl := by
  rcases h with ⟨e, m1, e2, e3⟩ | ⟨e, m2, e2, e3⟩
  · subst e e2 e3; exact am_L1a m1 hm gl bl
  · subst e m2 e2 e3; exact am_L1b g b
def am_tD (m low : Nat) (gl : Nat → Int) (cn : Nat → Nat) (k : Nat) : Prop := k < 3 ∧ gl k < 0 ∧ (∀ c, c < 3 → cn c = 3 + low ∨ ∃ i, i < 3 ∧ i ≠ k ∧ (cn c = i ∨ (cn c = 3 + m + i ∧ gl i < 0))) ∧ (∃ c, c < 3 ∧ cn c = 3 + low) ∧ (∀ i, i < 3 → i ≠ k → ∃ c, c < 3 ∧ (cn c = i ∨ cn c = 3 + m + i))
def am_n01 (v : Nat) : Nat := if v < 3 then 1 else 0
def am_nx (cn : Nat → Nat) : Nat := am_n01 (cn 0) + am_n01 (cn 1) + am_n01 (cn 2)
theorem am_nx_lt {cn : Nat → Nat} {q v : Nat} (hq : q < 3) (h : cn q < 3) (hv : 3 ≤ v) : am_nx (am_up cn q v) + 1 = am_nx cn := by
  have e1 : am_n01 (cn q) = 1 := by unfold am_n01; rw [if_pos h]
  have e2 : am_n01 v = 0 := by unfold am_n01; rw [if_neg (by omega)]
  have : q = 0 ∨ q = 1 ∨ q = 2 := by omega
  rcases this with e | e | e <;> subst e <;> simp [am_nx, am_up, e2] <;> omega
section
variable {m low : Nat} {g gl : Nat → Int} {b bl u : Int} {G : Nat → Nat → Int} {T : Nat → Int} {rn cn : Nat → Nat} {X : Nat → Int} {d : Nat → Nat → Int}
theorem am_jl (h : am_Q (am_F m g b) G (m + 3) 4 u T rn cn X d) (hL : am_L1 m low g b gl bl) {c q : Nat} (hc : c < 3) (hq : q < 3) (e : cn c = 3 + low) : am_d3 gl (d q) = -(if c = q then u else 0) := by
  have := h.1.2.2.1 c q hc hq
  rw [e, hL.2.2.1, h.2.2.1 q hq] at this
  omega
theorem am_kl (h : am_Q (am_F m g b) G (m + 3) 4 u T rn cn X d) (hL : am_L1 m low g b gl bl) {c : Nat} (hc : c < 3) (e : cn c = 3 + low) : am_d3 gl X = u * bl := by
  have := h.1.2.2.2 c hc
  rw [e, hL.2.2.1, hL.2.2.2.1, h.2.1] at this
  omega
/-- a row's right side, by its name -/
theorem am_rx (h : am_Q (am_F m g b) G (m + 3) 4 u T rn cn X d) {r : Nat} (hr : r < m + 3) (hv : rn r < 3) : T (r * 5 + 4) = X (rn r) := by
  have := (h.1.1 r hr).2
  rw [(am_Fx m g b X (rn r) hv).1, (am_Fx m g b X (rn r) hv).2] at this
  omega
theorem am_rs (h : am_Q (am_F m g b) G (m + 3) 4 u T rn cn X d) {r i : Nat} (hr : r < m + 3) (hi : i < 3) (hv : rn r = 3 + m + i) : T (r * 5 + 4) = 20 * u - X i := by
  have := (h.1.1 r hr).2
  rw [hv, (am_Fs m g b X i hi).1, (am_Fs m g b X i hi).2, h.2.1] at this
  omega
/-- conditions are met while one of them is a column -/
theorem am_rc (h : am_Q (am_F m g b) G (m + 3) 4 u T rn cn X d) (hL : am_L1 m low g b gl bl) (hX : am_d3 gl X = u * bl) {r : Nat} (hr : r < m + 3) (hv : rn r = 3 ∨ (m = 2 ∧ rn r = 4)) : T (r * 5 + 4) = 0 := by
  obtain ⟨l1, l2, l3, l4, _, l6⟩ := hL
  have := (h.1.1 r hr).2
  by_cases e : rn r = 3 + low
  · rw [e, l3, l4, h.2.1, hX] at this
    omega
  · have hm : m = 2 := by omega
    obtain ⟨k1, k2⟩ := l6 hm
    rw [show rn r = 4 - low by omega, k1, k2, h.2.1, hX] at this
    have e : u * -bl = -(u * bl) := by grind
    omega
/-- the only broken row is the bound of k -/
theorem am_Dbr (h : am_Q (am_F m g b) G (m + 3) 4 u T rn cn X d) (hN : am_N m rn cn) (hL : am_L1 m low g b gl bl) {k : Nat} (hD : am_tD m low gl cn k) (hk0 : 0 ≤ X k) {r : Nat} (hr : r < m + 3) (hneg : T (r * 5 + 4) < 0) : rn r = 3 + m + k ∧ 20 * u < X k := by
  have hu := h.2.2.2.1
  obtain ⟨hk, hgk, h1, ⟨ct, hct, ect⟩, h3⟩ := hD
  have hX := am_kl h hL hct ect
  have Xi : ∀ i, i < 3 → i ≠ k → X i = 0 ∨ X i = 20 * u := by
    intro i hi hik
    obtain ⟨c, hc, ec⟩ := h3 i hi hik
    rcases ec with ec | ec
    · left; exact am_kx h hc hi ec
    · right; exact am_ks h hc hi ec
  rcases am_vcase (hN.1 r hr) hL.2.1 with v | ⟨m1, v⟩ | ⟨m2, v⟩ | ⟨i, hi, v⟩
  · rw [am_rx h hr v] at hneg
    by_cases e : rn r = k
    · rw [e] at hneg; omega
    · rcases Xi _ v e with y | y <;> rw [y] at hneg <;> omega
  · rw [am_rc h hL hX hr (Or.inl v)] at hneg; omega
  · rw [am_rc h hL hX hr (Or.inr ⟨m2, v⟩)] at hneg; omega
  · rw [am_rs h hr hi v] at hneg
    by_cases e : i = k
    · subst e
      exact ⟨v, by omega⟩
    · rcases Xi i hi e with y | y <;> rw [y] at hneg <;> omega
/-- directions while one condition is a column -/
theorem am_Ddir (h : am_Q (am_F m g b) G (m + 3) 4 u T rn cn X d) (hL : am_L1 m low g b gl bl) {k : Nat} (hD : am_tD m low gl cn k) {q : Nat} (hq : q < 3) (hneg : d q k < 0) : ∃ j, j < 3 ∧ j ≠ k ∧ cn q = j ∧ gl j < 0 := by
  have hu := h.2.2.2.1
  have l1 := hL.1
  have l2 := hL.2.1
  obtain ⟨hk, hgk, h1, ⟨ct, hct, ect⟩, h3⟩ := hD
  have dz : ∀ i, i < 3 → i ≠ k → cn q ≠ i → cn q ≠ 3 + m + i → d q i = 0 := by
    intro i hi hik n1 n2
    obtain ⟨c, hc, ec⟩ := h3 i hi hik
    rcases ec with ec | ec
    · rw [am_jx h hc hq hi ec, if_neg (by intro z; subst z; exact n1 ec)]
    · rw [am_js h hc hq hi ec, if_neg (by intro z; subst z; exact n2 ec)]; rfl
  have pos := Int.mul_pos_of_neg_of_neg hgk hneg
  rcases h1 q hq with e | ⟨j, hj, hjk, e | ⟨e, hg⟩⟩
  · exfalso
    have s := am_jl h hL hq hq e
    rw [if_pos rfl, am_d3k hk (fun i hi hik => dz i hi hik (by omega) (by omega))] at s
    omega
  · have nt : ct ≠ q := by intro z; subst z; omega
    have s := am_jl h hL hct hq ect
    rw [if_neg nt, am_d3jk hj hk hjk (fun i hi hij hik => dz i hi hik (by omega) (by omega)), am_jx h hq hq hj e, if_pos rfl] at s
    refine ⟨j, hj, hjk, e, ?_⟩
    rcases Int.lt_or_le (gl j) 0 with y | y
    · exact y
    · have := Int.mul_nonneg y (show 0 ≤ u by omega)
      omega
  · exfalso
    have nt : ct ≠ q := by intro z; subst z; omega
    have s := am_jl h hL hct hq ect
    rw [if_neg nt, am_d3jk hj hk hjk (fun i hi hij hik => dz i hi hik (by omega) (by omega)), am_js h hq hq hj e, if_pos rfl] at s
    have := Int.mul_pos_of_neg_of_neg hg (show -u < 0 by omega)
    omega
/-- the invariant over rounds -/
def am_I3 (m : Nat) (g : Nat → Int) (b : Int) (G : Nat → Nat → Int) (i : Nat) (u : Int) (T : Nat → Int) (rn cn : Nat → Nat) : Prop :=
  ∃ X d, am_Q (am_F m g b) G (m + 3) 4 u T rn cn X d ∧ am_N m rn cn ∧ ((i = 0 ∧ u = 1 ∧ (∀ c, c < 3 → cn c = c) ∧ (∀ r, r < m + 3 → rn r = 3 + r) ∧ (X = fun _ => 0) ∧ d = am_e) ∨ (∃ low gl bl k, am_lw m low g b gl bl ∧ bl < 0 ∧ am_tD m low gl cn k ∧ 0 ≤ X k ∧ i + am_nx cn ≤ 3))
theorem am_I3step (hm : m ≤ 2) {i : Nat} (h : am_I3 m g b G i u T rn cn) {r q : Nat} (hr : r < m + 3) (hR : T (r * 5 + 4) < 0) (hq : q < 3) (hc : T (r * 5 + q) < 0) :
    am_I3 m g b G (i + 1) (am_ab (T (r * 5 + q))) (am_ex T r q u 3 (m + 3 + 4)) (am_up rn r (cn q)) (am_up cn q (rn r)) := by
  obtain ⟨X, d, hQ, hN, hT⟩ := h
  obtain ⟨X', d', hQ', hX'⟩ := am_Qx hQ hr hq (sp := -1) (Or.inr rfl) (by omega)
  have hu := hQ.2.2.2.1
  refine ⟨X', d', hQ', am_Nx hN hr hq, Or.inr ?_⟩
  rcases hT with ⟨ei, eu, ecn, ern, eX, ed⟩ | ⟨low, gl, bl, k, hlw, hbl, hD, hXk, hi⟩
  · subst ei eu eX ed
    have rr := (hQ.1.1 r hr).2
    have rq := (hQ.1.1 r hr).1 q hq
    rw [am_dot0, ern r hr] at rr
    rw [am_dote _ q (by omega), ern r hr] at rq
    have rm : r < m := by
      rcases Nat.lt_or_ge r m with y | y
      · exact y
      · have := (am_Fs m g b g (r - m) (by omega)).2
        rw [show 3 + m + (r - m) = 3 + r by omega] at this
        omega
    have mk : ∀ gl bl, am_lw m r g b gl bl → ∃ low gl bl k, am_lw m low g b gl bl ∧ bl < 0 ∧ am_tD m low gl (am_up cn q (rn r)) k ∧ 0 ≤ X' k ∧ 0 + 1 + am_nx (am_up cn q (rn r)) ≤ 3 := by
      intro gl bl hlw
      have hL := am_lwL hm hlw
      have eq := hL.2.2.2.2.1 q hq
      have eb := hL.2.2.2.1
      refine ⟨r, gl, bl, q, hlw, by omega, ⟨hq, by omega, fun c hc => ?_, ⟨q, hq, by rw [am_ups, ern r hr]⟩, fun i hi hiq => ⟨i, hi, Or.inl (by rw [am_upn _ _ hiq, ecn i hi])⟩⟩, ?_, ?_⟩
      · by_cases e : c = q
        · left; rw [e, am_ups, ern r hr]
        · right; exact ⟨c, hc, e, Or.inl (by rw [am_upn _ _ e, ecn c hc])⟩
      · have x := hX' q (by omega)
        rw [am_e_s] at x
        simp at x
        omega
      · have := am_nx_lt (cn := cn) (v := rn r) hq (by rw [ecn q hq]; exact hq) (by rw [ern r hr]; omega)
        have : am_nx cn = 3 := by unfold am_nx am_n01; rw [ecn 0 (by omega), ecn 1 (by omega), ecn 2 (by omega)]; rfl
        omega
    by_cases z : r = 0
    · exact mk g b (Or.inl ⟨z, by omega, rfl, rfl⟩)
    · exact mk _ _ (Or.inr ⟨by omega, by omega, rfl, rfl⟩)
  · have hL := am_lwL hm hlw
    have l1 := hL.1
    obtain ⟨ern, hbig⟩ := am_Dbr hQ hN hL hD hXk hr hR
    have ck := am_cs hQ hr hq hD.1 ern
    obtain ⟨j, hj, hjk, ecn, hgj⟩ := am_Ddir hQ hL hD hq (by omega)
    obtain ⟨hk, hgk, h1, ⟨ct, hct, ect⟩, h3⟩ := hD
    have other : ∀ c, c < 3 → c ≠ q → cn c ≠ j ∧ cn c ≠ 3 + m + j := by
      intro c hc hcq
      have dj : d q j = u := by rw [am_jx hQ hq hq hj ecn, if_pos rfl]
      constructor
      · intro z
        have := am_jx hQ hc hq hj z
        rw [if_neg hcq] at this; omega
      · intro z
        have := am_js hQ hc hq hj z
        rw [if_neg hcq] at this; omega
    refine ⟨low, gl, bl, j, hlw, hbl, ⟨hj, hgj, fun c hc => ?_, ⟨ct, hct, ?_⟩, fun i2 hi2 hij => ?_⟩, ?_, ?_⟩
    · by_cases e : c = q
      · right; exact ⟨k, hk, fun z => hjk z.symm, Or.inr ⟨by rw [e, am_ups]; exact ern, hgk⟩⟩
      · rw [am_upn _ _ e]
        have oc := other c hc e
        rcases h1 c hc with z | ⟨i2, hi2, hik, z | ⟨z, zo⟩⟩
        · left; exact z
        · right; exact ⟨i2, hi2, by omega, Or.inl z⟩
        · right; exact ⟨i2, hi2, by omega, Or.inr ⟨z, zo⟩⟩
    · rw [am_upn _ _ (by intro z; subst z; omega)]; exact ect
    · by_cases ei : i2 = k
      · exact ⟨q, hq, Or.inr (by rw [am_ups, ei]; exact ern)⟩
      · obtain ⟨c, hc, ec⟩ := h3 i2 hi2 ei
        refine ⟨c, hc, ?_⟩
        rw [am_upn _ _ (by intro z; subst z; omega)]
        exact ec
    · have x := hX' j (by omega)
      rw [am_kx hQ hq hj ecn, am_jx hQ hq hq hj ecn, if_pos rfl] at x
      have : X' j = -T (r * 5 + 4) := am_canc hu (by rw [x]; grind)
      omega
    · have := am_nx_lt (cn := cn) (v := rn r) hq (by omega) (by omega)
      omega
/-- no column can mend the broken row: there is no point -/
theorem am_I3none (hm : m ≤ 2) {i : Nat} (h : am_I3 m g b G i u T rn cn) {r : Nat} (hr : r < m + 3) (hR : T (r * 5 + 4) < 0) (hc : ∀ c, c < 3 → 0 ≤ T (r * 5 + c)) : am_none m g b := by
  obtain ⟨X, d, hQ, hN, hT⟩ := h
  have hu := hQ.2.2.2.1
  have conc : ∀ low gl bl, am_lw m low g b gl bl → bl < am_least gl → am_none m g b := by
    intro low gl bl hlw hl
    rcases hlw with ⟨_, m1, e2, e3⟩ | ⟨_, m2, e2, e3⟩
    · subst e2 e3; exact Or.inl ⟨m1, hl⟩
    · refine Or.inr ⟨m2, ?_⟩
      have := am_lm (g := gl) (o := g) (fun j _ => by rw [e2])
      omega
  rcases hT with ⟨ei, eu, ecn, ern, eX, ed⟩ | ⟨low, gl, bl, k, hlw, hbl, hD, hXk, hi⟩
  · subst ei eu eX ed
    have rr := (hQ.1.1 r hr).2
    rw [am_dot0, ern r hr] at rr
    have rm : r < m := by
      rcases Nat.lt_or_ge r m with y | y
      · exact y
      · have := (am_Fs m g b g (r - m) (by omega)).2
        rw [show 3 + m + (r - m) = 3 + r by omega] at this
        omega
    have mk : ∀ gl bl, am_lw m r g b gl bl → am_none m g b := by
      intro gl bl hlw
      have hL := am_lwL hm hlw
      refine conc r gl bl hlw ?_
      have nn : ∀ c, c < 3 → am_ng (gl c) = 0 := by
        intro c hc3
        have rq := (hQ.1.1 r hr).1 c hc3
        rw [am_dote _ c (by omega), ern r hr, hL.2.2.2.2.1 c hc3] at rq
        have := hc c hc3
        unfold am_ng
        rw [if_neg (by omega)]
      have eb := hL.2.2.2.1
      unfold am_least
      rw [nn 0 (by omega), nn 1 (by omega), nn 2 (by omega)]
      omega
    by_cases z : r = 0
    · exact mk g b (Or.inl ⟨z, by omega, rfl, rfl⟩)
    · exact mk _ _ (Or.inr ⟨by omega, by omega, rfl, rfl⟩)
  · have hL := am_lwL hm hlw
    have l1 := hL.1
    obtain ⟨ern, hbig⟩ := am_Dbr hQ hN hL hD hXk hr hR
    refine conc low gl bl hlw ?_
    obtain ⟨hk, hgk, h1, ⟨ct, hct, ect⟩, h3⟩ := hD
    have hX := am_kl hQ hL hct ect
    -- every other amount that counts stands at its bound
    have key : ∀ i, i < 3 → i ≠ k → gl i * X i ≤ u * (20 * am_ng (gl i)) := by
      intro i hi hik
      obtain ⟨c, hcc, ec⟩ := h3 i hi hik
      rcases ec with ec | ec
      · rw [am_kx hQ hcc hi ec]
        have ng : am_ng (gl i) = 0 := by
          unfold am_ng
          by_cases y : gl i < 0
          · exfalso
            have ck := am_cs hQ hr hcc hk ern
            have h0 := hc c hcc
            have nt : ct ≠ c := by intro z; subst z; omega
            have dz : ∀ i2, i2 < 3 → i2 ≠ i → i2 ≠ k → d c i2 = 0 := by
              intro i2 hi2 hn1 hn2
              obtain ⟨c2, hc2, ec2⟩ := h3 i2 hi2 hn2
              rcases ec2 with ec2 | ec2
              · rw [am_jx hQ hc2 hcc hi2 ec2, if_neg (by intro z; subst z; omega)]
              · rw [am_js hQ hc2 hcc hi2 ec2, if_neg (by intro z; subst z; omega)]; rfl
            have s := am_jl hQ hL hct hcc ect
            rw [if_neg nt, am_d3jk hi hk hik dz, am_jx hQ hcc hcc hi ec, if_pos rfl] at s
            have a1 := Int.mul_neg_of_neg_of_pos y hu
            have a2 := Int.mul_nonpos_of_nonpos_of_nonneg (show gl k ≤ 0 by omega) (show 0 ≤ d c k by omega)
            omega
          · rw [if_neg y]
        rw [ng]; omega
      · rw [am_ks hQ hcc hi ec]
        have ng : am_ng (gl i) = gl i := by
          unfold am_ng
          rcases h1 c hcc with z | ⟨i2, hi2, _, z | ⟨z, zo⟩⟩
          · omega
          · omega
          · have : i2 = i := by omega
            subst this
            rw [if_pos zo]
        rw [ng]
        have : gl i * (20 * u) = u * (20 * gl i) := by grind
        omega
    have kk : gl k * X k < u * (20 * am_ng (gl k)) := by
      have : am_ng (gl k) = gl k := by unfold am_ng; rw [if_pos hgk]
      rw [this]
      have a := Int.mul_lt_mul_of_neg_left hbig hgk
      have e : u * (20 * gl k) = gl k * (20 * u) := by grind
      omega
    have tot : am_d3 gl X < u * am_least gl := by
      have e1 : u * am_least gl = u * (20 * am_ng (gl 0)) + u * (20 * am_ng (gl 1)) + u * (20 * am_ng (gl 2)) := by unfold am_least; grind
      have hk' : k = 0 ∨ k = 1 ∨ k = 2 := by omega
      unfold am_d3
      rcases hk' with e | e | e
      · subst e
        have a := key 1 (by omega) (by omega)
        have a2 := key 2 (by omega) (by omega)
        omega
      · subst e
        have a := key 0 (by omega) (by omega)
        have a2 := key 2 (by omega) (by omega)
        omega
      · subst e
        have a := key 0 (by omega) (by omega)
        have a2 := key 1 (by omega) (by omega)
        omega
    rw [hX] at tot
    exact Int.lt_of_mul_lt_mul_left tot (by omega)
/-- nothing is broken: a point -/
theorem am_I3fe (hm : m ≤ 2) (hQ : am_Q (am_F m g b) G (m + 3) 4 u T rn cn X d) (hN : am_N m rn cn) (hR : ∀ r, r < m + 3 → 0 ≤ T (r * 5 + 4)) : am_fe (am_F m g b) m u X := by
  intro v hv
  rcases hN.2.2 v hv with ⟨r, hr, e⟩ | ⟨c, hc, e⟩
  · have := (hQ.1.1 r hr).2
    rw [e] at this
    have := hR r hr
    omega
  · have := hQ.1.2.2.2 c hc
    rw [e] at this
    omega
end
end
section
section
variable {pr_ wo_ ro_ tu_ co_ fw_ wc_ li_ em_ hh_ hl_ br_ l3_ g3_ : Int32} {un_ wt_ wb_ ht_ hb_ lt_ lb_ : Int64} {a1 a2 a3 a4 a5 a6 a7 a8 a9 a11 a12 a18 a19 : Nat → Int32} {a10 a13 a14 a15 a16 a17 : Nat → Int64}
/-- rounds: an invariant -/
theorem am_dualw {post : Int32 → St2 → Prop} {rows fk k : Nat} (Inv : Nat → Int → (Nat → Int) → (Nat → Nat) → (Nat → Nat) → Prop) (hrows : rows ≤ 16) (hrk : rows ≤ fk + k) (hfk : fk + k ≤ 21)
    (hok : ∀ i u T rn cn, Inv i u T rn cn → u ≠ 0 ∧ am_B u ∧ (∀ r c, r < fk + k → (c < 3 ∨ c = 4) → am_B (T (r * 5 + c))) ∧ (∀ r, r < rows → rn r < 128) ∧ (∀ c, c < 3 → cn c < 128))
    (hstep : ∀ i u T rn cn b q, Inv i u T rn cn → b < rows → T (b * 5 + 4) < 0 → q < 3 → T (b * 5 + q) < 0 → Inv (i + 1) (am_ab (T (b * 5 + q))) (am_ex T b q u 3 (fk + k)) (am_up rn b (cn q)) (am_up cn q (rn b)))
    (hf : ∀ i u T rn cn b, Inv i u T rn cn → b < rows → T (b * 5 + 4) < 0 → (∀ c, c < 3 → 0 ≤ T (b * 5 + c)) → post 0 (pr_, wo_, nI rows, tu_, am_L u, nI 3, nI fk, nI k, wt_, wb_, li_, em_, hh_, ht_, hb_, hl_, lt_, lb_, br_, l3_, g3_, a1, a2, a3, a4, a5, a6, a7, a8, a9, am_lf T, am_nf rn, am_nf cn, a13, a14, a15, a16, a17, a18, a19))
    (ht : ∀ i u T rn cn, Inv i u T rn cn → (∀ r, r < rows → 0 ≤ T (r * 5 + 4)) → wpX_readOff (post 1) (pr_, wo_, nI rows, tu_, am_L u, nI 3, nI fk, nI k, wt_, wb_, li_, em_, hh_, ht_, hb_, hl_, lt_, lb_, br_, l3_, g3_, a1, a2, a3, a4, a5, a6, a7, a8, a9, am_lf T, am_nf rn, am_nf cn, a13, a14, a15, a16, a17, a18, a19))
    (he : ∀ u T rn cn, ¬ Inv 100000 u T rn cn)
    {u : Int} {T : Nat → Int} {rn cn : Nat → Nat} (h : Inv 0 u T rn cn) :
    ∃ n, wX_solveByWorth_53 post n 0 pr_ wo_ (nI rows) tu_ (am_L u) (nI 3) (nI fk) (nI k) wt_ wb_ li_ em_ hh_ ht_ hb_ hl_ lt_ lb_ br_ l3_ g3_ a1 a2 a3 a4 a5 a6 a7 a8 a9 (am_lf T) (am_nf rn) (am_nf cn) a13 a14 a15 a16 a17 a18 a19 := by
  refine pk_loop (fun n i (s : Int × (Nat → Int) × (Nat → Nat) × (Nat → Nat)) => wX_solveByWorth_53 post n (nI i) pr_ wo_ (nI rows) tu_ (am_L s.1) (nI 3) (nI fk) (nI k) wt_ wb_ li_ em_ hh_ ht_ hb_ hl_ lt_ lb_ br_ l3_ g3_ a1 a2 a3 a4 a5 a6 a7 a8 a9 (am_lf s.2.1) (am_nf s.2.2.1) (am_nf s.2.2.2) a13 a14 a15 a16 a17 a18 a19) (fun i s => Inv i s.1 s.2.1 s.2.2.1 s.2.2.2) 100000 0 (u, T, rn, cn) (by omega) h ?_ ?_
  · rintro n ⟨u, T, rn, cn⟩ hI
    exact absurd hI (he u T rn cn)
  · rintro n i ⟨u, T, rn, cn⟩ hi hI hn
    replace hI : Inv i u T rn cn := hI
    obtain ⟨hu0, hu, hT, hrn, hcn⟩ := hok i u T rn cn hI
    refine pk_le 100000 i (fun z => absurd z (by omega)) (fun _ => ?_)
    refine am_brokenRow (fun r hr => hT r 4 (by omega) (Or.inr rfl)) hrows hrn (fun hp => br_f (by decide) (ht i u T rn cn hI hp)) (fun b hb hneg => br_t (nI_pos' (by omega)) ?_)
    refine pk_loop (fun n2 c (s : Int32) => wX_solveByWorth_79 post (wX_solveByWorth_53 post n) (nI i) (nI b) pr_ wo_ (nI rows) tu_ (am_L u) (nI 3) (nI fk) (nI k) wt_ wb_ li_ em_ hh_ ht_ hb_ hl_ lt_ lb_ br_ l3_ g3_ a1 a2 a3 a4 a5 a6 a7 a8 a9 (am_lf T) (am_nf rn) (am_nf cn) a13 a14 a15 a16 a17 a18 a19 n2 s (nI c)) (fun c s => (s = -1 ∧ ∀ c', c' < c → 0 ≤ T (b * 5 + c')) ∨ ∃ q, q < c ∧ s = nI q ∧ T (b * 5 + q) < 0) 3 0 (-1) (by omega) (Or.inl ⟨rfl, fun _ z => absurd z (by omega)⟩) ?_ ?_
    · intro n2 s hs
      refine pk_le 3 3 (fun _ => ?_) (fun z => absurd z (by omega))
      rcases hs with ⟨e, hz⟩ | ⟨q, hq, e, hlt⟩
      · subst e
        exact br_f (by decide) (hf i u T rn cn b hI hb hneg hz)
      · subst e
        refine br_t (nI_pos' (by omega)) ?_
        exact am_exchange hT hu hu0 (by omega) (by omega) hq hfk (by omega) (hrn b hb) (hcn q hq) (nI_add fk k) (nm_r (nI_1 i) (hn (am_ab (T (b * 5 + q)), am_ex T b q u 3 (fk + k), am_up rn b (cn q), am_up cn q (rn b)) (hstep i u T rn cn b q hI hb hneg hq hlt)))
    · intro n2 c s hc hs hn2
      refine pk_le 3 c (fun z => absurd z (by omega)) (fun _ => ?_)
      refine am_cellx b c rfl rfl (by omega) (by omega) ?_
      have new := fun z => hn2 (nI c) (Or.inr ⟨c, by omega, rfl, z⟩)
      refine am_le 0 (T (b * 5 + c)) am_W0 (am_BW (hT b c (by omega) (Or.inl hc))) (fun z => nm_r (nI_1 c) (hn2 s ?_)) (fun z => ?_)
      · rcases hs with ⟨e, hz⟩ | ⟨q, hq, e, hlt⟩
        · refine Or.inl ⟨e, fun c' hc' => ?_⟩
          by_cases y : c' = c
          · rw [y]; exact z
          · exact hz c' (by omega)
        · exact Or.inr ⟨q, by omega, e, hlt⟩
      · rcases hs with ⟨e, hz⟩ | ⟨q, hq, e, hlt⟩
        · subst e
          exact br_t (by decide) (nm_r (nI_1 c) (new z))
        · subst e
          refine br_f (nI_pos (by omega)) ?_
          exact am_losesLess (cols := 3) (T := T) (cn := cn) (by omega) (by omega) (by omega) hfk (br_t rfl (nm_r (nI_1 c) (hn2 (nI q) (Or.inr ⟨q, by omega, rfl, hlt⟩)))) (br_f (by decide) (nm_r (nI_1 c) (new z)))
/-! which amounts are counted down -/
def am_tb (As : Nat → Int) (t : Nat) : Prop := t < 8 ∧ ∀ i, i < 3 → t / 2 ^ i % 2 = if 0 < As i then 1 else 0
theorem am_or {t i : Nat} (ht : t < 2 ^ i) (hi : i < 3) : nI t ||| ((1 : Int32) <<< (nI i &&& 31)) = nI (t + 2 ^ i) ∧ t + 2 ^ i < 2 ^ (i + 1) ∧ (t + 2 ^ i) / 2 ^ i % 2 = 1 ∧ ∀ j, j < i → (t + 2 ^ i) / 2 ^ j % 2 = t / 2 ^ j % 2 := by
  have h : ∀ i : Fin 3, ∀ t : Fin 8, t.val < 2 ^ i.val → (nI t.val ||| ((1 : Int32) <<< (nI i.val &&& 31)) = nI (t.val + 2 ^ i.val) ∧ t.val + 2 ^ i.val < 2 ^ (i.val + 1) ∧ (t.val + 2 ^ i.val) / 2 ^ i.val % 2 = 1 ∧ ∀ j : Fin 3, j.val < i.val → (t.val + 2 ^ i.val) / 2 ^ j.val % 2 = t.val / 2 ^ j.val % 2) := by decide +kernel
  have ht8 : t < 8 := by
    have : (2 : Nat) ^ i ≤ 2 ^ 2 := Nat.pow_le_pow_right (by omega) (by omega)
    omega
  obtain ⟨a, b, c, d⟩ := h ⟨i, hi⟩ ⟨t, ht8⟩ ht
  exact ⟨a, b, c, fun j hj => d ⟨j, by omega⟩ hj⟩
theorem am_or0 (x : Int32) : x ||| 0 = x := by
  rw [← Int32.toBitVec_inj]
  simp
theorem am_div0 {t i : Nat} (ht : t < 2 ^ i) : t / 2 ^ i % 2 = 0 := by rw [Nat.div_eq_of_lt ht]
theorem am_sw7 {post : Int32 → St2 → Prop} {As : Nat → Int} (hAs : am_s7 As)
    (h : ∀ t, am_tb As t → wpX_writeRows (fun u => wpX_setUp (fun u => match u with | (pr_, wo_, ro_, tu_, un_, co_, fw_, wc_, wt_, wb_, li_, em_, hh_, ht_, hb_, hl_, lt_, lb_, br_, l3_, g3_, a1, a2, a3, a4, a5, a6, a7, a8, a9, a10, a11, a12, a13, a14, a15, a16, a17, a18, a19) => ∃ n, wX_solveByWorth_53 post n 0 pr_ wo_ ro_ tu_ un_ co_ fw_ wc_ wt_ wb_ li_ em_ hh_ ht_ hb_ hl_ lt_ lb_ br_ l3_ g3_ a1 a2 a3 a4 a5 a6 a7 a8 a9 a10 a11 a12 a13 a14 a15 a16 a17 a18 a19) u) (pr_, wo_, ro_, nI t, un_, co_, fw_, wc_, wt_, wb_, li_, em_, hh_, ht_, hb_, hl_, lt_, lb_, br_, l3_, g3_, a1, a2, a3, a4, a5, a6, am_if As, a8, a9, a10, a11, a12, a13, a14, a15, a16, a17, a18, a19)) :
    wpX_solveByWorth post (pr_, wo_, ro_, tu_, un_, co_, fw_, wc_, wt_, wb_, li_, em_, hh_, ht_, hb_, hl_, lt_, lb_, br_, l3_, g3_, a1, a2, a3, a4, a5, a6, am_if As, a8, a9, a10, a11, a12, a13, a14, a15, a16, a17, a18, a19) := by
  unfold wpX_solveByWorth
  refine pk_loop (fun n i (t : Nat) => wX_solveByWorth_7 post pr_ wo_ ro_ un_ co_ fw_ wc_ wt_ wb_ li_ em_ hh_ ht_ hb_ hl_ lt_ lb_ br_ l3_ g3_ a1 a2 a3 a4 a5 a6 (am_if As) a8 a9 a10 a11 a12 a13 a14 a15 a16 a17 a18 a19 n (nI i) (nI t)) (fun i t => t < 2 ^ i ∧ ∀ j, j < i → t / 2 ^ j % 2 = if 0 < As j then 1 else 0) 3 0 0 (by omega) ⟨by decide, fun _ z => absurd z (by omega)⟩ ?_ ?_
  · rintro n t ⟨h1, h2⟩
    exact pk_le 3 3 (fun _ => h t ⟨h1, h2⟩) (fun z => absurd z (by omega))
  · rintro n i t hi ⟨h1, h2⟩ hn
    have bA : am_V (As i) := by have := hAs i hi; unfold am_V; omega
    refine pk_le 3 i (fun z => absurd z (by omega)) (fun _ => ⟨pk_in i 3 hi, ?_⟩)
    have p2 : (2 : Nat) ^ (i + 1) = 2 * 2 ^ i := by rw [Nat.pow_succ]; omega
    refine am_ile (As i) 0 bA (by unfold am_V; omega) (fun z => nm_r (e' := nI t) (am_or0 _) (nm_r (nI_1 i) (hn t ⟨by omega, fun j hj => ?_⟩))) (fun z => ?_) (by rw [nI_clamp (by omega)]; rfl)
    · by_cases e : j = i
      · rw [e, am_div0 h1, if_neg (by omega)]
      · exact h2 j (by omega)
    · obtain ⟨o1, o2, o3, o4⟩ := am_or h1 hi
      refine nm_r (e' := nI (t + 2 ^ i)) o1 (nm_r (nI_1 i) (hn _ ⟨o2, fun j hj => ?_⟩))
      by_cases e : j = i
      · rw [e, o3, if_pos (by omega)]
      · rw [o4 j (by omega)]; exact h2 j (by omega)
end
end
section
/-! numbers counted down: the same condition -/
theorem am_frt {As lo hv : Nat → Int} {t : Nat} (ht : am_tb As t) (hlo : ∀ i, i < 3 → lo i = 0) (hhv : ∀ i, i < 3 → hv i = 20) {i : Nat} (hi : i < 3) : am_fr t lo hv i = if 0 < As i then 20 else 0 := by
  unfold am_fr
  rw [ht.2 i hi]
  by_cases e : 0 < As i
  · rw [if_pos e, if_pos e, if_neg (by omega)]; exact hhv i hi
  · rw [if_neg e, if_neg e, if_pos rfl]; exact hlo i hi
theorem am_swt {As n : Nat → Int} {t : Nat} (ht : am_tb As t) {i : Nat} (hi : i < 3) : am_sw t n i = if 0 < As i then -(n i) else n i := by
  unfold am_sw
  rw [ht.2 i hi]
  by_cases e : 0 < As i
  · rw [if_pos e, if_pos e, if_neg (by omega)]
  · rw [if_neg e, if_neg e, if_pos rfl]
theorem am_bdt {As lo hv n : Nat → Int} {t : Nat} {B : Int} (ht : am_tb As t) (hlo : ∀ i, i < 3 → lo i = 0) (hhv : ∀ i, i < 3 → hv i = 20) : am_bd t lo hv n B 3 = B - n 0 * (if 0 < As 0 then 20 else 0) - n 1 * (if 0 < As 1 then 20 else 0) - n 2 * (if 0 < As 2 then 20 else 0) := by
  rw [am_bd3, am_frt ht hlo hhv (by omega), am_frt ht hlo hhv (by omega), am_frt ht hlo hhv (by omega)]
theorem am_ngt {x y : Int} : 20 * am_ng (if 0 < y then -x else x) = 20 * am_ng x - x * (if 0 < y then 20 else 0) ∧ 20 * am_ps (if 0 < y then -x else x) = 20 * am_ps x - x * (if 0 < y then 20 else 0) := by
  unfold am_ng am_ps
  by_cases h : 0 < y
  · simp only [if_pos h]
    constructor
    · by_cases a : x < 0
      · rw [if_neg (by omega), if_pos a]; omega
      · rw [if_neg a]
        by_cases a2 : -x < 0
        · rw [if_pos a2]; omega
        · rw [if_neg a2]; omega
    · by_cases a : 0 < x
      · rw [if_neg (by omega), if_pos a]; omega
      · rw [if_neg a]
        by_cases a2 : 0 < -x
        · rw [if_pos a2]; omega
        · rw [if_neg a2]; omega
  · simp only [if_neg h]
    exact ⟨by omega, by omega⟩
theorem am_nont {As lo hv n : Nat → Int} {t m : Nat} {B : Int} (ht : am_tb As t) (hlo : ∀ i, i < 3 → lo i = 0) (hhv : ∀ i, i < 3 → hv i = 20) : am_none m (am_sw t n) (am_bd t lo hv n B 3) ↔ am_none m n B := by
  have l : am_least (am_sw t n) = am_least n - n 0 * (if 0 < As 0 then 20 else 0) - n 1 * (if 0 < As 1 then 20 else 0) - n 2 * (if 0 < As 2 then 20 else 0) := by
    unfold am_least
    rw [am_swt ht (show 0 < 3 by omega), am_swt ht (show 1 < 3 by omega), am_swt ht (show 2 < 3 by omega)]
    have a0 := (am_ngt (x := n 0) (y := As 0)).1
    have a1 := (am_ngt (x := n 1) (y := As 1)).1
    have a2 := (am_ngt (x := n 2) (y := As 2)).1
    omega
  have s : am_most (am_sw t n) = am_most n - n 0 * (if 0 < As 0 then 20 else 0) - n 1 * (if 0 < As 1 then 20 else 0) - n 2 * (if 0 < As 2 then 20 else 0) := by
    unfold am_most
    rw [am_swt ht (show 0 < 3 by omega), am_swt ht (show 1 < 3 by omega), am_swt ht (show 2 < 3 by omega)]
    have a0 := (am_ngt (x := n 0) (y := As 0)).2
    have a1 := (am_ngt (x := n 1) (y := As 1)).2
    have a2 := (am_ngt (x := n 2) (y := As 2)).2
    omega
  unfold am_none
  rw [l, s, am_bdt ht hlo hhv]
  constructor
  · rintro (⟨a, b⟩ | ⟨a, b⟩)
    · exact Or.inl ⟨a, by omega⟩
    · exact Or.inr ⟨a, by omega⟩
  · rintro (⟨a, b⟩ | ⟨a, b⟩)
    · exact Or.inl ⟨a, by omega⟩
    · exact Or.inr ⟨a, by omega⟩
/-- the worth's forms, counted down -/
def am_Gt (t : Nat) (lo hv As : Nat → Int) : Nat → Nat → Int := fun w j => if j < 3 then am_sw t (am_nw As w) j else if j = 4 then -(am_bd t lo hv (am_nw As w) 0 3) else 0
theorem am_nw7 {As : Nat → Int} (h : am_s7 As) (w : Nat) {i : Nat} (hi : i < 3) : (am_nw As w i).natAbs ≤ 7 := by
  have := h i hi
  unfold am_nw
  split
  · exact this
  · split <;> omega
theorem am_Gtsm {As lo hv : Nat → Int} {t : Nat} (hA : am_s7 As) (hlo : ∀ i, i < 3 → lo i = 0) (hhv : ∀ i, i < 3 → hv i = 20) : ∀ w, am_sm (am_Gt t lo hv As w) := by
  intro w
  have fr : ∀ i, i < 3 → (am_fr t lo hv i).natAbs ≤ 20 := by
    intro i hi
    unfold am_fr
    split
    · rw [hlo i hi]; omega
    · rw [hhv i hi]; omega
  refine ⟨fun j hj => ?_, ?_⟩
  · unfold am_Gt am_sw
    rw [if_pos hj]
    have := am_nw7 hA w hj
    split <;> omega
  · unfold am_Gt
    rw [if_neg (by omega), if_pos rfl, am_bd3]
    have k0 := am_bm (am_nw7 hA w (show 0 < 3 by omega)) (fr 0 (by omega))
    have k1 := am_bm (am_nw7 hA w (show 1 < 3 by omega)) (fr 1 (by omega))
    have k2 := am_bm (am_nw7 hA w (show 2 < 3 by omega)) (fr 2 (by omega))
    omega
theorem am_mfr {As : Nat → Int} : As 0 * (if 0 < As 0 then 20 else 0) + As 1 * (if 0 < As 1 then 20 else 0) + As 2 * (if 0 < As 2 then 20 else 0) = am_most As := by
  have key : ∀ x : Int, x * (if 0 < x then 20 else 0) = 20 * am_ps x := by
    intro x
    unfold am_ps
    split <;> omega
  unfold am_most
  rw [key, key, key]; omega
/-- the answers of the engine from the side of the worth -/
def am_rsd (m : Nat) (g : Nat → Int) (b : Int) (o : Nat → Int) (r : Int32) (x y : Int64) (tp : Nat → Int) : Prop :=
  (r = 0 ∧ am_none m g b) ∨ (r = 1 ∧ ¬ am_none m g b ∧ ∃ u, 0 < u ∧ u ≤ 2058 ∧ y = am_L u ∧ (∀ i, i < 3 → (tp i).natAbs ≤ 6000000) ∧ (am_hk m g o → ∃ V, am_due m g b o V ∧ x = am_L (u * V)))
theorem am_dotG {f X : Nat → Int} (h : X 3 = 0) : am_dot f X = f 0 * X 0 + f 1 * X 1 + f 2 * X 2 := by
  unfold am_dot; rw [h]; omega
/-- the worth at the end -/
theorem am_worthD {m t : Nat} {n As lo hv : Nat → Int} {B u : Int} {i : Nat} {T : Nat → Int} {rn cn : Nat → Nat} (hm : m ≤ 2) (ht : am_tb As t) (hlo : ∀ i, i < 3 → lo i = 0) (hhv : ∀ i, i < 3 → hv i = 20) (hk : am_hk m n As)
    (h : am_I3 m (am_sw t n) (am_bd t lo hv n B 3) (am_Gt t lo hv As) i u T rn cn) (hR : ∀ r, r < m + 3 → 0 ≤ T (r * 5 + 4)) : ∃ V, am_due m n B As V ∧ T ((m + 3) * 5 + 4) = u * V := by
  obtain ⟨X, d, hQ, hN, hT⟩ := h
  have fe := am_I3fe hm hQ hN hR
  obtain ⟨f1, f2, f3⟩ := am_fep hm fe hQ.2.1
  have hu := hQ.2.2.2.1
  have W := (hQ.1.2.1 0 (by omega)).2
  rw [show (m + 3 + 0) * 5 + 4 = (m + 3) * 5 + 4 by omega, am_dotG hQ.2.1] at W
  have G4 : am_Gt t lo hv As 0 4 = am_most As := by
    unfold am_Gt
    rw [if_neg (by omega), if_pos rfl, am_bdt ht hlo hhv, ← am_mfr]
    unfold am_nw
    simp only [if_true]
    omega
  have Gi : ∀ i, i < 3 → am_Gt t lo hv As 0 i = am_sw t As i := by
    intro i hi
    unfold am_Gt
    rw [if_pos hi]
    unfold am_sw am_nw
    simp only [if_true]
  rw [G4, Gi 0 (by omega), Gi 1 (by omega), Gi 2 (by omega)] at W
  have bt := am_bdt (n := n) (B := B) ht hlo hhv
  rcases hT with ⟨ei, eu, ecn, ern, eX, ed⟩ | ⟨low, gl, bl, k, hlw, hbl, hD, hXk, hi⟩
  · subst eu eX
    simp only [Int.mul_zero, Int.add_zero, Int.zero_add, Int.one_mul] at W
    refine ⟨am_most As, ?_, by omega⟩
    rcases hk with z | ⟨m1, z⟩ | ⟨m1, z⟩
    · exact Or.inl ⟨z, rfl⟩
    · refine Or.inr (Or.inl ⟨m1, z, ?_⟩)
      have := f2 m1
      have d0 : am_d3 (am_sw t n) (fun _ => 0) = 0 := by simp [am_d3]
      rw [d0, bt, z 0 (by omega), z 1 (by omega), z 2 (by omega)] at this
      have := am_mfr (As := As)
      rw [if_neg (by omega)]
    · exact Or.inr (Or.inr ⟨m1, z, rfl⟩)
  · have hL := am_lwL hm hlw
    obtain ⟨hk3, hgk, h1, ⟨ct, hct, ect⟩, h3⟩ := hD
    have hX := am_kl hQ hL hct ect
    rcases hk with z | ⟨m1, z⟩ | ⟨m1, z⟩
    · have := hL.1; omega
    · have ge : ∀ i, i < 3 → am_sw t n i = am_sw t As i := by
        intro i hi
        rw [am_swt ht hi, am_swt ht hi, z i hi]
      have gle : ∀ i, i < 3 → am_sw t As i ≤ 0 := by
        intro i hi
        rw [am_swt ht hi]
        split <;> omega
      rcases hlw with ⟨_, _, e2, e3⟩ | ⟨_, _, e2, e3⟩
      · subst e2 e3
        refine ⟨B, Or.inr (Or.inl ⟨m1, z, ?_⟩), ?_⟩
        · rw [bt, z 0 (by omega), z 1 (by omega), z 2 (by omega)] at hbl
          have := am_mfr (As := As)
          rw [if_pos (by omega)]
        · unfold am_d3 at hX
          rw [ge 0 (by omega), ge 1 (by omega), ge 2 (by omega), bt, z 0 (by omega), z 1 (by omega), z 2 (by omega)] at hX
          have mf := am_mfr (As := As)
          rw [W, hX]
          have : B - As 0 * (if 0 < As 0 then 20 else 0) - As 1 * (if 0 < As 1 then 20 else 0) - As 2 * (if 0 < As 2 then 20 else 0) = B - am_most As := by omega
          rw [this]; grind
      · exfalso
        subst e2
        have := gle k hk3
        have := ge k hk3
        have hgk' : -(am_sw t n k) < 0 := hgk
        omega
    · exfalso
      rcases hlw with ⟨_, _, e2, e3⟩ | ⟨_, m2, _⟩
      · subst e2
        rw [am_swt ht hk3, z k hk3] at hgk
        split at hgk <;> omega
      · omega
section
variable {pr_ wo_ ro_ tu_ co_ fw_ wc_ li_ em_ hh_ hl_ br_ l3_ g3_ : Int32} {un_ wt_ wb_ ht_ hb_ lt_ lb_ : Int64} {a1 a2 a3 a4 a5 a6 a7 a8 a9 a11 a12 a18 a19 : Nat → Int32} {a10 a13 a14 a15 a16 a17 : Nat → Int64}
theorem am_solveByWorth {post : Int32 → St2 → Prop} {rows t cc ff ww : Nat} {u : Int} {R Q T tp : Nat → Int} {rn cn : Nat → Nat} {P : Nat} {w : Int} {N Kd Bd lo hv As : Nat → Int} {inc : Bool} (hP : P < 2) (hw : w = 0 ∨ w = -1) (hinc : inc = true ↔ (P = 1 ∧ w = -1)) (hkd : Kd 0 = 0 ∨ Kd 0 = 1 ∨ Kd 0 = 2)
    (hN : am_s7 N) (hB : (Bd 0).natAbs ≤ 128) (hlo : ∀ i, i < 3 → lo i = 0) (hhv : ∀ i, i < 3 → hv i = 20) (hAs : am_s7 As)
    (h : ∀ r x y, ∀ (rows t cc ff ww : Nat) (u : Int) (R Q T tp : Nat → Int) (rn cn : Nat → Nat), am_rsd (am_mk inc (Kd 0)) (am_cg (Kd 0) N) (am_sgn (Kd 0) 0 * Bd 0) As r x y tp → post r (nI P, am_I w, nI rows, nI t, am_L u, nI cc, nI ff, nI ww, x, y, li_, em_, hh_, ht_, hb_, hl_, lt_, lb_, br_, l3_, g3_, am_if N, am_if Kd, am_if Bd, a4, am_if lo, am_if hv, am_if As, am_if R, am_if Q, am_lf T, am_nf rn, am_nf cn, am_lf tp, a14, a15, a16, a17, a18, a19)) :
    wpX_solveByWorth post (nI P, am_I w, nI rows, nI t, am_L u, nI cc, nI ff, nI ww, wt_, wb_, li_, em_, hh_, ht_, hb_, hl_, lt_, lb_, br_, l3_, g3_, am_if N, am_if Kd, am_if Bd, a4, am_if lo, am_if hv, am_if As, am_if R, am_if Q, am_lf T, am_nf rn, am_nf cn, am_lf tp, a14, a15, a16, a17, a18, a19) := by
  have m2 : am_mk inc (Kd 0) ≤ 2 := by unfold am_mk; split <;> (try split) <;> omega
  have hlh : ∀ i, i < 3 → hv i - lo i = 20 := fun i hi => by rw [hlo i hi, hhv i hi]; rfl
  refine am_sw7 hAs (fun t ht => ?_)
  refine am_writeRows (t := t) hP ht.1 hw hinc hkd (fun R' Q' r1 r2 r3 r4 => ?_)
  obtain ⟨f1, f2⟩ := am_R2F hkd hlh r1 r2 r3 r4
  have e1 : (fun i => am_sgn (Kd 0) 0 * N i) = am_cg (Kd 0) N := rfl
  rw [e1] at f1 f2
  have hb : (am_sgn (Kd 0) 0 * Bd 0).natAbs ≤ 128 := by
    rcases am_sgn1 (Kd 0) 0 with e | e <;> rw [e] <;> omega
  generalize am_sgn (Kd 0) 0 * Bd 0 = B at f1 f2 hb h
  generalize am_mk inc (Kd 0) = m at f1 f2 m2 h
  have hg := am_cg7 (kd := Kd 0) hN
  generalize am_cg (Kd 0) N = n at f1 f2 h hg
  have hgt : am_s7 (am_sw t n) := by
    intro j hj
    have := hg j hj
    unfold am_sw
    split <;> omega
  have hbt : (am_bd t lo hv n B 3).natAbs ≤ 600 := by
    have fr : ∀ i, i < 3 → (am_fr t lo hv i).natAbs ≤ 20 := by
      intro i hi
      rw [am_frt ht hlo hhv hi]
      split <;> omega
    rw [am_bd3]
    have k0 := am_bm (hg 0 (by omega)) (fr 0 (by omega))
    have k1 := am_bm (hg 1 (by omega)) (fr 1 (by omega))
    have k2 := am_bm (hg 2 (by omega)) (fr 2 (by omega))
    omega
  have nont := am_nont (n := n) (m := m) (B := B) ht hlo hhv
  have hs : am_sms (am_F m (am_sw t n) (am_bd t lo hv n B 3)) (am_Gt t lo hv As) := ⟨am_Fsm hgt hbt, am_Gtsm hAs hlo hhv⟩
  have smF : ∀ v j, j < 5 → j ≠ 3 → (am_F m (am_sw t n) (am_bd t lo hv n B 3) v j).natAbs ≤ 600 := by
    intro v j hj hj3
    by_cases e : j = 4
    · rw [e]; exact (hs.1 v).2
    · have := (hs.1 v).1 j (by omega); omega
  refine am_setUp ht.1 (by omega) hAs (fun i hi => by rw [hlo i hi]; omega) (fun i hi => by rw [hhv i hi]; omega) (fun r i hr hi => ?_) (fun r hr => ?_) (fun T' rn' cn' t1 t2 t3 t4 t5 t6 t7 _ => ?_)
  · have := smF (3 + r) i (by omega) (by omega)
    rw [f1 r i hr hi]; unfold am_V; omega
  · have := smF (3 + r) 4 (by omega) (by omega)
    rw [f2 r hr]; unfold am_V; omega
  have q1 : ∀ r i, r < m + 3 → i < 3 → T' (r * 5 + i) = -(am_F m (am_sw t n) (am_bd t lo hv n B 3) (3 + r) i) := fun r i hr hi => by rw [t1 r i hr hi, f1 r i hr hi]
  have q2 : ∀ r, r < m + 3 → T' (r * 5 + 4) = am_F m (am_sw t n) (am_bd t lo hv n B 3) (3 + r) 4 := fun r hr => by rw [t2 r hr, f2 r hr]
  have q3 : ∀ w i, w < 4 → i < 3 → T' ((m + 3 + w) * 5 + i) = -(am_Gt t lo hv As w i) := fun w i hw hi => by
    rw [t4 w i hw hi]; unfold am_Gt; rw [if_pos hi]
  have q4 : ∀ w, w < 4 → T' ((m + 3 + w) * 5 + 4) = am_Gt t lo hv As w 4 := fun w hw => by
    rw [t5 w hw]; unfold am_Gt; rw [if_neg (by omega), if_pos rfl]
  have ok : ∀ i u T rn cn, am_I3 m (am_sw t n) (am_bd t lo hv n B 3) (am_Gt t lo hv As) i u T rn cn → u ≠ 0 ∧ am_B u ∧ (∀ r c, r < m + 3 + 4 → (c < 3 ∨ c = 4) → am_B (T (r * 5 + c))) ∧ (∀ r, r < m + 3 → rn r < 128) ∧ (∀ c, c < 3 → cn c < 128) := by
    rintro i u T rn cn ⟨X, d, hQ, hN, _⟩
    obtain ⟨b1, b2, b3⟩ := am_Qb hQ hs
    have hu := hQ.2.2.2.1
    refine ⟨by omega, by unfold am_B; omega, fun r c hr hc => ?_, fun r hr => ?_, fun c hc => ?_⟩
    · have := b1 r c hr hc
      unfold am_B; omega
    · have := hN.1 r hr; omega
    · have := hN.2.1 c hc; omega
  refine am_dualw (fk := m + 3) (k := 4) (rows := m + 3) (am_I3 m (am_sw t n) (am_bd t lo hv n B 3) (am_Gt t lo hv As)) (by omega) (by omega) (by omega) ok (fun i u T rn cn b q hI hb hneg hq hc => am_I3step m2 hI hb hneg hq hc) (fun i u T rn cn b hI hb hneg hc => h 0 wt_ wb_ _ _ _ _ _ _ _ _ _ _ _ _ (Or.inl ⟨rfl, nont.mp (am_I3none m2 hI hb hneg hc)⟩)) ?_ ?_ ⟨fun _ => 0, am_e, am_Q0 q1 q2 q3 q4 t6 t7, am_N0 t6 t7, Or.inl ⟨rfl, rfl, t7, t6, rfl, rfl⟩⟩
  · intro i u T rn cn hI hR
    have hI' := hI
    obtain ⟨X, d, hQ, hN, _⟩ := hI'
    obtain ⟨b1, b2, b3⟩ := am_Qb hQ hs
    have hu := hQ.2.2.2.1
    have fe := am_I3fe m2 hQ hN hR
    refine am_readOff ht.1 (by omega) (by omega) (fun r hr => by have := hN.1 r hr; omega) (fun r hr => b1 r 4 (by omega) (Or.inr rfl)) b2 (fun i hi => by rw [hlo i hi]; omega) (fun i hi => by rw [hhv i hi]; omega) (fun tp htp => h 1 _ _ _ _ _ _ _ _ _ _ _ _ _ _ (Or.inr ⟨rfl, fun z => am_notnone m2 hu fe hQ.2.1 (nont.mpr z), u, hu, by omega, rfl, htp, fun hk => ?_⟩))
    obtain ⟨V, hV, eV⟩ := am_worthD m2 ht hlo hhv hk hI hR
    exact ⟨V, hV, by rw [eV]⟩
  · rintro u T rn cn ⟨X, d, _, _, ⟨e, _⟩ | ⟨_, _, _, _, _, _, _, _, hi⟩⟩ <;> omega
end
end
section
/-! the greatest common divisor -/
theorem am_LN (n : Nat) : lN n = am_L (n : Int) := (Int64.ofInt_eq_ofNat).symm
def am_gd (a b : Nat) : Nat := if Nat.gcd a b = 0 then 1 else Nat.gcd a b
theorem am_div28 {post : Int64 → Prop} {g : Nat} (h : post (lN (if g = 0 then 1 else g))) (x y : Nat) (hx : x < 2 ^ 63) (hy : y < 2 ^ 63) (hg : Nat.gcd x y = g) : ∃ n, wX_divisor_28 post n (lN x) (lN y) := by
  refine loop_m (fun n (s : Nat × Nat) => wX_divisor_28 post n (lN s.1) (lN s.2)) (fun s => s.1 < 2 ^ 63 ∧ s.2 < 2 ^ 63 ∧ Nat.gcd s.1 s.2 = g) (fun s => s.2) ?_ (x, y) ⟨hx, hy, hg⟩
  rintro n ⟨x, y⟩ ⟨hx, hy, hg⟩ hn
  replace hx : x < 2 ^ 63 := hx
  replace hy : y < 2 ^ 63 := hy
  replace hg : Nat.gcd x y = g := hg
  have e0 : ∀ z, z < 2 ^ 63 → (lN z = 0 ↔ z = 0) := fun z hz => pk_lEQ (a := z) (b := 0) hz (by decide)
  by_cases y0 : y = 0
  · subst y0
    rw [Nat.gcd_zero_right] at hg
    refine br_t rfl ?_
    by_cases x0 : x = 0
    · subst x0
      rw [← hg] at h
      exact br_t rfl h
    · refine br_f (fun z => x0 ((e0 x hx).mp z)) ?_
      rw [← hg, if_neg x0] at h
      exact h
  · have yn : ¬ lN y = 0 := fun z => y0 ((e0 y hy).mp z)
    refine br_f yn ⟨yn, nm_r (pk_lRem hx (by omega) hy) (hn (y, x % y) ⟨hy, ?_, ?_⟩ ?_)⟩
    · have := Nat.mod_lt x (show 0 < y by omega)
      show x % y < 2 ^ 63
      omega
    · show Nat.gcd y (x % y) = g
      rw [← hg, Nat.gcd_comm x y, Nat.gcd_rec y x, Nat.gcd_comm]
    · show x % y < y
      exact Nat.mod_lt x (by omega)
theorem am_nat {x : Int} (h : 0 ≤ x) : am_L x = lN x.natAbs := by
  rw [am_LN]
  congr 1
  omega
theorem am_divisor {post : Int64 → Prop} {a b : Int} (ha : am_W a) (hb : am_W b) (h : post (am_L (am_gd a.natAbs b.natAbs))) : wpX_divisor post () (am_L a) (am_L b) := by
  have ha' := ha
  have hb' := hb
  unfold am_W at ha' hb'
  have key : ∃ n, wX_divisor_28 post n (lN a.natAbs) (lN b.natAbs) := by
    refine am_div28 (g := Nat.gcd a.natAbs b.natAbs) ?_ _ _ (by omega) (by omega) rfl
    rw [am_LN]
    exact h
  have two : wX_divisor_12 post (am_L b) (lN a.natAbs) := by
    unfold wX_divisor_12
    refine am_le 0 b am_W0 hb (fun z => ?_) (fun z => nm_r (e' := lN b.natAbs) ?_ key)
    · rw [am_nat z]; exact key
    · rw [am_Lneg, am_nat (by omega)]
      congr 1
      omega
  unfold wpX_divisor
  refine am_le 0 a am_W0 ha (fun z => ?_) (fun z => ?_)
  · have e := am_nat z
    rw [← e] at two
    exact two
  · have e : -am_L a = lN a.natAbs := by
      rw [am_Lneg, am_nat (by omega)]
      congr 1
      omega
    rw [e]
    exact two
theorem am_gd_pos (a b : Nat) : 0 < am_gd a b := by unfold am_gd; split <;> omega
theorem am_gd_l (a b : Nat) : am_gd a b ∣ a := by
  unfold am_gd
  split
  · exact Nat.one_dvd a
  · exact Nat.gcd_dvd_left a b
theorem am_gd_r (a b : Nat) : am_gd a b ∣ b := by
  unfold am_gd
  split
  · exact Nat.one_dvd b
  · exact Nat.gcd_dvd_right a b
theorem am_gd_le (a b : Nat) (h : 0 < a ∨ 0 < b) : am_gd a b ≤ a + b := by
  rcases h with h | h
  · have := Nat.le_of_dvd h (am_gd_l a b); omega
  · have := Nat.le_of_dvd h (am_gd_r a b); omega
theorem am_gd_bd {a b K : Nat} (ha : a ≤ K) (hb : b ≤ K) (hK : 1 ≤ K) : am_gd a b ≤ K := by
  by_cases h : 0 < a
  · have := Nat.le_of_dvd h (am_gd_l a b); omega
  · by_cases h2 : 0 < b
    · have := Nat.le_of_dvd h2 (am_gd_r a b); omega
    · have e1 : a = 0 := by omega
      have e2 : b = 0 := by omega
      subst e1 e2
      exact hK
/-- a divisor of the size divides the number -/
theorem am_dv {d : Nat} {a : Int} (h : d ∣ a.natAbs) : ∃ k : Int, a = (d : Int) * k := by
  obtain ⟨k, hk⟩ := h
  rcases Int.natAbs_eq a with e | e
  · exact ⟨k, by rw [e, hk]; simp⟩
  · exact ⟨-(k : Int), by rw [e, hk, Int.mul_neg]; simp⟩
/-- a fraction's top in lowest terms, when it is whole -/
theorem am_topOf {post : Int32 → Prop} {u V : Int} (hu : 0 < u) (hub : u ≤ 1000000) (hV : V.natAbs ≤ 1000000) (h : post (am_I V)) : wpX_topOf post () (am_L (u * V)) (am_L u) := by
  have bm := am_bm (a := 1000000) (b := 1000000) (show u.natAbs ≤ 1000000 by omega) hV
  have wx : am_W (u * V) := by unfold am_W; omega
  have wu : am_W u := by unfold am_W; omega
  have eg : am_gd (u * V).natAbs u.natAbs = u.natAbs := by
    unfold am_gd
    rw [Int.natAbs_mul, Nat.gcd_mul_right_left]
    rw [if_neg (by omega)]
  unfold wpX_topOf
  refine am_divisor wx wu ?_
  rw [eg, show ((u.natAbs : Nat) : Int) = u by omega]
  have un : ¬ am_L u = 0 := fun z => by
    have := (am_Leq wu am_W0).mp z
    omega
  refine br_f un ⟨un, ?_⟩
  rw [am_Ldiv wx wu, Int.mul_tdiv_cancel_left V (by omega), am_LI (by unfold am_W; omega)]
  exact h
/-- any other top is small -/
theorem am_topOf' {post : Int32 → Prop} {x u : Int} (hu : 0 < u) (hub : u ≤ 1000000) (hx : x.natAbs ≤ 6000000) (h : ∀ v : Int, v.natAbs ≤ 6000000 → post (am_I v)) : wpX_topOf post () (am_L x) (am_L u) := by
  have wx : am_W x := by unfold am_W; omega
  have wu : am_W u := by unfold am_W; omega
  have gp := am_gd_pos x.natAbs u.natAbs
  have gb := am_gd_bd (a := x.natAbs) (b := u.natAbs) (K := 6000000) hx (by omega) (by omega)
  unfold wpX_topOf
  refine am_divisor wx wu ?_
  have wg : am_W ((am_gd x.natAbs u.natAbs : Nat) : Int) := by unfold am_W; omega
  have un : ¬ am_L ((am_gd x.natAbs u.natAbs : Nat) : Int) = 0 := fun z => by
    have := (am_Leq wg am_W0).mp z
    omega
  obtain ⟨k, hk⟩ := am_dv (am_gd_l x.natAbs u.natAbs)
  have kb : k.natAbs ≤ 6000000 := by
    have : x.natAbs = am_gd x.natAbs u.natAbs * k.natAbs := by
      rw [← Int.natAbs_natCast (am_gd x.natAbs u.natAbs), ← Int.natAbs_mul, ← hk]
    have : 1 * k.natAbs ≤ am_gd x.natAbs u.natAbs * k.natAbs := Nat.mul_le_mul_right _ gp
    omega
  refine br_f un ⟨un, ?_⟩
  rw [am_Ldiv wx wg]
  have e : x.tdiv ((am_gd x.natAbs u.natAbs : Nat) : Int) = k := am_tdiv (by omega) hk
  rw [e, am_LI (by unfold am_W; omega)]
  exact h k kb
end
section
/-! inequalities of fewer variables: L c j is part c (worth, first, second, bound) of line j -/
/-- a line that is a positive multiple of v -/
def am_hs (n : Nat) (L : Nat → Nat → Int) (v : Nat → Int) : Prop := ∃ j, j < n ∧ ∃ q k : Int, 0 < q ∧ 0 < k ∧ ∀ c, c < 4 → k * v c = q * L c j
theorem am_hsm {n n' : Nat} {L L' : Nat → Nat → Int} {v : Nat → Int} (h : am_hs n L v) (hn : n ≤ n') (hL : ∀ j, j < n → ∀ c, L' c j = L c j) : am_hs n' L' v := by
  obtain ⟨j, hj, q, k, hq, hk, e⟩ := h
  exact ⟨j, by omega, q, k, hq, hk, fun c hc => by rw [hL j hj c]; exact e c hc⟩
section
variable {pr_ wo_ ro_ tu_ co_ fw_ wc_ li_ em_ hh_ hl_ br_ l3_ g3_ : Int32} {un_ wt_ wb_ ht_ hb_ lt_ lb_ : Int64} {a1 a2 a3 a4 a5 a6 a7 a8 a9 a11 a12 a18 a19 : Nat → Int32} {a10 a13 a14 a15 a16 a17 : Nat → Int64}
theorem am_addLine {post : St2 → Prop} {n : Nat} {L : Nat → Nat → Int} {v : Nat → Int} (hn : n < 512) (hb : ∀ j, j < n → ∀ c, c < 4 → am_B (L c j)) (hv : ∀ c, c < 4 → am_B (v c))
    (h : ∀ n' L', n ≤ n' → n' ≤ n + 1 → (∀ j, j < n → ∀ c, L' c j = L c j) → (∀ j, n ≤ j → j < n' → ∃ q : Int, 0 < q ∧ ∀ c, c < 4 → v c = q * L' c j) → am_hs n' L' v → post (pr_, wo_, ro_, tu_, un_, co_, fw_, wc_, wt_, wb_, nI n', em_, hh_, ht_, hb_, hl_, lt_, lb_, br_, l3_, g3_, a1, a2, a3, a4, a5, a6, a7, a8, a9, a10, a11, a12, a13, am_lf (L' 0), am_lf (L' 1), am_lf (L' 2), am_lf (L' 3), a18, a19)) :
    wpX_addLine post (pr_, wo_, ro_, tu_, un_, co_, fw_, wc_, wt_, wb_, nI n, em_, hh_, ht_, hb_, hl_, lt_, lb_, br_, l3_, g3_, a1, a2, a3, a4, a5, a6, a7, a8, a9, a10, a11, a12, a13, am_lf (L 0), am_lf (L 1), am_lf (L 2), am_lf (L 3), a18, a19) (am_L (v 0)) (am_L (v 1)) (am_L (v 2)) (am_L (v 3)) := by
  have vb : ∀ c, c < 4 → (v c).natAbs ≤ 1073741824 := fun c hc => by have := hv c hc; unfold am_B at this; omega
  unfold wpX_addLine
  have b1 := am_gd_bd (vb 0 (by omega)) (vb 1 (by omega)) (by omega)
  refine am_divisor (am_BW (hv 0 (by omega))) (am_BW (hv 1 (by omega))) ?_
  have d10 := am_gd_l (v 0).natAbs (v 1).natAbs
  have d11 := am_gd_r (v 0).natAbs (v 1).natAbs
  generalize am_gd (v 0).natAbs (v 1).natAbs = c1 at b1 d10 d11
  refine am_divisor (by unfold am_W; omega) (am_BW (hv 2 (by omega))) ?_
  rw [Int.natAbs_natCast]
  have b2 := am_gd_bd b1 (vb 2 (by omega)) (by omega)
  have d21 := am_gd_l c1 (v 2).natAbs
  have d22 := am_gd_r c1 (v 2).natAbs
  generalize am_gd c1 (v 2).natAbs = c2 at b2 d21 d22
  refine am_divisor (by unfold am_W; omega) (am_BW (hv 3 (by omega))) ?_
  rw [Int.natAbs_natCast]
  have b3 := am_gd_bd b2 (vb 3 (by omega)) (by omega)
  have d32 := am_gd_l c2 (v 3).natAbs
  have d33 := am_gd_r c2 (v 3).natAbs
  have p3 := am_gd_pos c2 (v 3).natAbs
  generalize am_gd c2 (v 3).natAbs = c3 at b3 d32 d33 p3
  obtain ⟨k0, e0⟩ := am_dv (Nat.dvd_trans (Nat.dvd_trans d32 d21) d10)
  obtain ⟨k1, e1⟩ := am_dv (Nat.dvd_trans (Nat.dvd_trans d32 d21) d11)
  obtain ⟨k2, e2⟩ := am_dv (Nat.dvd_trans d32 d22)
  obtain ⟨k3, e3⟩ := am_dv d33
  have w3 : am_W ((c3 : Nat) : Int) := by unfold am_W; omega
  have un : ¬ am_L ((c3 : Nat) : Int) = 0 := fun z => by
    have := (am_Leq w3 am_W0).mp z
    omega
  have kb : ∀ c k, c < 4 → v c = (c3 : Int) * k → am_B k := by
    intro c k hc e
    have h1 := vb c hc
    rw [e, Int.natAbs_mul, Int.natAbs_natCast] at h1
    have h2 : 1 * k.natAbs ≤ c3 * k.natAbs := Nat.mul_le_mul_right _ p3
    unfold am_B; omega
  have dv : ∀ c k, c < 4 → v c = (c3 : Int) * k → am_L (v c) / am_L ((c3 : Nat) : Int) = am_L k := by
    intro c k hc e
    rw [am_Ldiv (am_BW (hv c hc)) w3, am_tdiv (by omega) e]
  refine br_f un ⟨un, nm_r (dv 0 k0 (by omega) e0) ⟨un, nm_r (dv 1 k1 (by omega) e1) ⟨un, nm_r (dv 2 k2 (by omega) e2) ⟨un, nm_r (dv 3 k3 (by omega) e3) ?_⟩⟩⟩⟩
  have B0 := am_BW (kb 0 k0 (by omega) e0)
  have B1 := am_BW (kb 1 k1 (by omega) e1)
  have B2 := am_BW (kb 2 k2 (by omega) e2)
  have B3 := am_BW (kb 3 k3 (by omega) e3)
  refine pk_loop (σ := Unit) (fun f j _ => wX_addLine_62 post (am_L k0) (am_L k1) (am_L k2) (am_L k3) pr_ wo_ ro_ tu_ un_ co_ fw_ wc_ wt_ wb_ (nI n) em_ hh_ ht_ hb_ hl_ lt_ lb_ br_ l3_ g3_ a1 a2 a3 a4 a5 a6 a7 a8 a9 a10 a11 a12 a13 (am_lf (L 0)) (am_lf (L 1)) (am_lf (L 2)) (am_lf (L 3)) a18 a19 f (nI j)) (fun _ _ => True) n 0 () (by omega) trivial ?_ ?_
  · intro f _ _
    have new := h (n + 1) (fun c => am_up (L c) n (if c = 0 then k0 else if c = 1 then k1 else if c = 2 then k2 else k3)) (by omega) (by omega) (fun j hj c => am_upn _ _ (by omega)) (fun j hj1 hj2 => ⟨c3, by omega, fun c hc => by
        have ej : j = n := by omega
        subst ej
        show v c = (c3 : Int) * am_up (L c) j _ j
        rw [am_ups]
        have : c = 0 ∨ c = 1 ∨ c = 2 ∨ c = 3 := by omega
        rcases this with e | e | e | e <;> subst e <;> simp <;> assumption⟩) ⟨n, by omega, c3, 1, by omega, by omega, fun c hc => by
        show 1 * v c = (c3 : Int) * am_up (L c) n _ n
        rw [am_ups, Int.one_mul]
        have : c = 0 ∨ c = 1 ∨ c = 2 ∨ c = 3 := by omega
        rcases this with e | e | e | e <;> subst e <;> simp <;> assumption⟩
    refine pk_le n n (fun _ => ⟨pk_in n 512 hn, nm_r ?_ ⟨pk_in n 512 hn, nm_r ?_ ⟨pk_in n 512 hn, nm_r ?_ ⟨pk_in n 512 hn, nm_r ?_ (nm_r (nI_1 n) new)⟩⟩⟩⟩) (fun z => absurd z (by omega))
    · rw [nI_clamp (by omega), am_uL]; rfl
    · rw [nI_clamp (by omega), am_uL]; rfl
    · rw [nI_clamp (by omega), am_uL]; rfl
    · rw [nI_clamp (by omega), am_uL]; rfl
  · intro f j _ hj _ hn2
    have next := hn2 () trivial
    have bj := hb j hj
    refine pk_le n j (fun z => absurd z (by omega)) (fun _ => ⟨pk_in j 512 (by omega), ?_⟩)
    rw [nI_clamp (show j < 2 ^ 31 by omega)]
    refine am_eq (L 0 j) k0 (am_BW (bj 0 (by omega))) B0 (fun z0 => ⟨pk_in j 512 (by omega), ?_⟩) (fun _ => nm_r (nI_1 j) next)
    refine am_eq (L 1 j) k1 (am_BW (bj 1 (by omega))) B1 (fun z1 => ⟨pk_in j 512 (by omega), ?_⟩) (fun _ => nm_r (nI_1 j) next)
    refine am_eq (L 2 j) k2 (am_BW (bj 2 (by omega))) B2 (fun z2 => ⟨pk_in j 512 (by omega), ?_⟩) (fun _ => nm_r (nI_1 j) next)
    refine am_eq (L 3 j) k3 (am_BW (bj 3 (by omega))) B3 (fun z3 => ?_) (fun _ => nm_r (nI_1 j) next)
    refine h n L (by omega) (by omega) (fun _ _ _ => rfl) (fun i h1 h2 => absurd h1 (by omega)) ⟨j, hj, c3, 1, by omega, by omega, fun c hc => ?_⟩
    have : c = 0 ∨ c = 1 ∨ c = 2 ∨ c = 3 := by omega
    rcases this with e | e | e | e <;> subst e
    · rw [z0, e0]; omega
    · rw [z1, e1]; omega
    · rw [z2, e2]; omega
    · rw [z3, e3]; omega
end
end
section
/-- two lines met so that part z falls out -/
def am_cb (L : Nat → Nat → Int) (z a b : Nat) : Nat → Int := fun c => L c a * -(L z b) + L c b * L z a
theorem am_hsc {n : Nat} {L : Nat → Nat → Int} {v w : Nat → Int} (h : am_hs n L v) (e : ∀ c, c < 4 → v c = w c) : am_hs n L w := by
  obtain ⟨j, hj, q, k, hq, hk, he⟩ := h
  exact ⟨j, hj, q, k, hq, hk, fun c hc => by rw [← e c hc]; exact he c hc⟩
def am_z1 (v : Nat → Int) : Nat → Int := fun c => if c = 1 then 0 else v c
theorem am_z1e {v : Nat → Int} (h : v 1 = 0) : ∀ c, c < 4 → am_z1 v c = v c := by
  intro c _
  unfold am_z1
  by_cases e : c = 1
  · rw [if_pos e, e, h]
  · rw [if_neg e]
theorem am_cb1 (L : Nat → Nat → Int) (a b : Nat) : am_cb L 1 a b 1 = 0 := by unfold am_cb; grind
section
variable {pr_ wo_ ro_ tu_ co_ fw_ wc_ li_ em_ hh_ hl_ br_ l3_ g3_ : Int32} {un_ wt_ wb_ ht_ hb_ lt_ lb_ : Int64} {a1 a2 a3 a4 a5 a6 a7 a8 a9 a11 a12 a18 a19 : Nat → Int32} {a10 a13 a14 a15 a16 a17 : Nat → Int64}
theorem am_to170 {post : St2 → Prop} {n : Nat} {L : Nat → Nat → Int} (hn : n ≤ 400) (hb : ∀ j, j < n → am_B (L 1 j))
    (h : ∀ (n' : Nat) (L' : Nat → Nat → Int), n' ≤ n → (∀ j, j < n' → ∃ i, i < n ∧ L 1 i = 0 ∧ ∀ c, L' c j = L c i) → (∀ i, i < n → L 1 i = 0 → ∃ j, j < n' ∧ ∀ c, L' c j = L c i) → post (pr_, wo_, ro_, tu_, un_, co_, fw_, wc_, wt_, wb_, nI n', em_, hh_, ht_, hb_, hl_, lt_, lb_, br_, l3_, g3_, a1, a2, a3, a4, a5, a6, a7, a8, a9, a10, a11, a12, a13, am_lf (L' 0), am_lf (L' 1), am_lf (L' 2), am_lf (L' 3), a18, a19)) :
    ∃ f, wX_takeFirstOut_170 post pr_ wo_ ro_ tu_ un_ co_ fw_ wc_ wt_ wb_ (nI n) em_ hh_ ht_ hb_ hl_ lt_ lb_ br_ l3_ g3_ f 0 0 a1 a2 a3 a4 a5 a6 a7 a8 a9 a10 a11 a12 a13 (am_lf (L 0)) (am_lf (L 1)) (am_lf (L 2)) (am_lf (L 3)) a18 a19 := by
  refine pk_loop (fun f k (s : Nat × (Nat → Nat → Int)) => wX_takeFirstOut_170 post pr_ wo_ ro_ tu_ un_ co_ fw_ wc_ wt_ wb_ (nI n) em_ hh_ ht_ hb_ hl_ lt_ lb_ br_ l3_ g3_ f (nI s.1) (nI k) a1 a2 a3 a4 a5 a6 a7 a8 a9 a10 a11 a12 a13 (am_lf (s.2 0)) (am_lf (s.2 1)) (am_lf (s.2 2)) (am_lf (s.2 3)) a18 a19) (fun k s => s.1 ≤ k ∧ (∀ j, k ≤ j → ∀ c, s.2 c j = L c j) ∧ (∀ j, j < s.1 → ∃ i, i < k ∧ L 1 i = 0 ∧ ∀ c, s.2 c j = L c i) ∧ (∀ i, i < k → L 1 i = 0 → ∃ j, j < s.1 ∧ ∀ c, s.2 c j = L c i)) n 0 (0, L) (by omega) ⟨by omega, fun _ _ _ => rfl, fun _ z => absurd z (by simp), fun _ z => absurd z (by omega)⟩ ?_ ?_
  · rintro f ⟨m, M⟩ ⟨h1, h2, h3, h4⟩
    exact pk_le n n (fun _ => h m M h1 h3 h4) (fun z => absurd z (by omega))
  · rintro f k ⟨m, M⟩ hk ⟨h1, h2, h3, h4⟩ hw
    replace h1 : m ≤ k := h1
    replace h2 : ∀ j, k ≤ j → ∀ c, M c j = L c j := h2
    replace h3 : ∀ j, j < m → ∃ i, i < k ∧ L 1 i = 0 ∧ ∀ c, M c j = L c i := h3
    replace h4 : ∀ i, i < k → L 1 i = 0 → ∃ j, j < m ∧ ∀ c, M c j = L c i := h4
    refine pk_le n k (fun z => absurd z (by omega)) (fun _ => ⟨pk_in k 512 (by omega), ?_⟩)
    have ek := h2 k (by omega) 1
    refine am_eq (L 1 k) 0 (am_BW (hb k hk)) am_W0 (fun z => ?_) (fun z => nm_r (nI_1 k) (hw (m, M) ⟨by show m ≤ k + 1; omega, fun j hj c => h2 j (by omega) c, fun j hj => ?_, fun i hi hz => ?_⟩)) (by rw [nI_clamp (by omega)]; exact congrArg am_L ek)
    · have zM : M 1 k = 0 := by rw [ek]; exact z
      refine ⟨pk_in k 512 (by omega), pk_in m 512 (by omega), nm_r (e' := am_lf (am_up (M 0) m (M 0 k))) ?_ ⟨pk_in m 512 (by omega), nm_r (e' := am_lf (am_up (M 1) m (M 1 k))) ?_ ⟨pk_in k 512 (by omega), pk_in m 512 (by omega), nm_r (e' := am_lf (am_up (M 2) m (M 2 k))) ?_ ⟨pk_in k 512 (by omega), pk_in m 512 (by omega), nm_r (e' := am_lf (am_up (M 3) m (M 3 k))) ?_ (nm_r (nI_1 m) (nm_r (nI_1 k) (hw (m + 1, fun c => am_up (M c) m (M c k)) ⟨by show m + 1 ≤ k + 1; omega, fun j hj c => ?_, fun j hj => ?_, fun i hi hz => ?_⟩)))⟩⟩⟩⟩
      · rw [nI_clamp (by omega), nI_clamp (by omega)]; exact am_uL _ _ _
      · rw [nI_clamp (by omega), zM]; exact am_uL (M 1) m 0
      · rw [nI_clamp (by omega), nI_clamp (by omega)]; exact am_uL _ _ _
      · rw [nI_clamp (by omega), nI_clamp (by omega)]; exact am_uL _ _ _
      · show am_up (M c) m (M c k) j = L c j
        rw [am_upn _ _ (by omega)]; exact h2 j (by omega) c
      · replace hj : j < m + 1 := hj
        by_cases e : j = m
        · refine ⟨k, by omega, z, fun c => ?_⟩
          show am_up (M c) m (M c k) j = L c k
          rw [e, am_ups]; exact h2 k (by omega) c
        · obtain ⟨i, hi, hz, he⟩ := h3 j (by omega)
          refine ⟨i, by omega, hz, fun c => ?_⟩
          show am_up (M c) m (M c k) j = L c i
          rw [am_upn _ _ e]; exact he c
      · by_cases e : i = k
        · refine ⟨m, by show m < m + 1; omega, fun c => ?_⟩
          show am_up (M c) m (M c k) m = L c i
          rw [am_ups, e]; exact h2 k (by omega) c
        · obtain ⟨j, hj, he⟩ := h4 i (by omega) hz
          refine ⟨j, by show j < m + 1; omega, fun c => ?_⟩
          show am_up (M c) m (M c k) j = L c i
          rw [am_upn _ _ (by omega)]; exact he c
    · obtain ⟨i, hi, hz, he⟩ := h3 j hj
      exact ⟨i, by omega, hz, he⟩
    · by_cases e : i = k
      · exact absurd (e ▸ hz) z
      · exact h4 i (by omega) hz
theorem am_takeFirstOut {post : St2 → Prop} {n : Nat} {L : Nat → Nat → Int} (P P1 : (Nat → Int) → Prop) (hn : n ≤ 10) (hP : ∀ j, j < n → P (fun c => L c j))
    (pb : ∀ v, P v → ∀ c, c < 4 → am_B (v c)) (pb1 : ∀ v, P1 v → ∀ c, c < 4 → am_B (v c)) (hz : ∀ v, P v → v 1 = 0 → P1 v) (hcb : ∀ a b, a < n → b < n → 0 < L 1 a → L 1 b < 0 → P1 (am_cb L 1 a b))
    (hsc : ∀ v w q, 0 < q → (∀ c, c < 4 → v c = q * w c) → P1 v → P1 w)
    (h : ∀ (n' : Nat) (L' : Nat → Nat → Int), n' ≤ 400 → (∀ j, j < n' → P1 (fun c => L' c j) ∧ L' 1 j = 0) → (∀ a, a < n → L 1 a = 0 → am_hs n' L' (fun c => L c a)) → (∀ a b, a < n → b < n → 0 < L 1 a → L 1 b < 0 → am_hs n' L' (am_cb L 1 a b)) → post (pr_, wo_, ro_, tu_, un_, co_, fw_, wc_, wt_, wb_, nI n', em_, hh_, ht_, hb_, hl_, lt_, lb_, br_, l3_, g3_, a1, a2, a3, a4, a5, a6, a7, a8, a9, a10, a11, a12, a13, am_lf (L' 0), am_lf (L' 1), am_lf (L' 2), am_lf (L' 3), a18, a19)) :
    wpX_takeFirstOut post (pr_, wo_, ro_, tu_, un_, co_, fw_, wc_, wt_, wb_, nI n, em_, hh_, ht_, hb_, hl_, lt_, lb_, br_, l3_, g3_, a1, a2, a3, a4, a5, a6, a7, a8, a9, a10, a11, a12, a13, am_lf (L 0), am_lf (L 1), am_lf (L 2), am_lf (L 3), a18, a19) := by
  have hsc1 : ∀ v w : Nat → Int, (∀ c, c < 4 → v c = w c) → P1 v → P1 w := fun v w e => hsc v w 1 (by omega) (fun c hc => by rw [e c hc]; omega)
  have bL : ∀ j, j < n → ∀ c, c < 4 → am_B (L c j) := fun j hj => pb _ (hP j hj)
  unfold wpX_takeFirstOut
  -- the state while lines are added
  let Inv : Nat → Nat → (Nat → Nat → Int) → Prop := fun K m M => n ≤ m ∧ m ≤ n + K ∧ (∀ j, j < n → ∀ c, M c j = L c j) ∧ (∀ j, n ≤ j → j < m → P1 (fun c => M c j) ∧ M 1 j = 0)
  have bM : ∀ K m M, Inv K m M → ∀ j, j < m → ∀ c, c < 4 → am_B (M c j) := by
    rintro K m M ⟨_, _, i3, i4⟩ j hj c hc
    by_cases e : j < n
    · rw [i3 j e]; exact bL j e c hc
    · exact pb1 _ (i4 j (by omega) hj).1 c hc
  have addI : ∀ K m M m' M' (v : Nat → Int), Inv K m M → P1 v → v 1 = 0 → m ≤ m' → m' ≤ m + 1 → (∀ j, j < m → ∀ c, M' c j = M c j) → (∀ j, m ≤ j → j < m' → ∃ q : Int, 0 < q ∧ ∀ c, c < 4 → v c = q * M' c j) → Inv (K + 1) m' M' := by
    rintro K m M m' M' v ⟨i1, i2, i3, i4⟩ hv hv1 h1 h2 h3 h4
    refine ⟨by omega, by omega, fun j hj c => by rw [h3 j (by omega)]; exact i3 j hj c, fun j hj1 hj2 => ?_⟩
    by_cases e : j < m
    · have : (fun c => M' c j) = fun c => M c j := by funext c; exact h3 j e c
      rw [this, h3 j e]; exact i4 j hj1 e
    · obtain ⟨q, hq, he⟩ := h4 j (by omega) hj2
      refine ⟨hsc v _ q hq he hv, ?_⟩
      have := he 1 (by omega)
      rw [hv1] at this
      rcases Int.mul_eq_zero.mp this.symm with y | y
      · omega
      · exact y
  refine pk_loop (fun f a (s : Nat × (Nat → Nat → Int)) => wX_takeFirstOut_7 post (nI n) f (nI a) pr_ wo_ ro_ tu_ un_ co_ fw_ wc_ wt_ wb_ (nI s.1) em_ hh_ ht_ hb_ hl_ lt_ lb_ br_ l3_ g3_ a1 a2 a3 a4 a5 a6 a7 a8 a9 a10 a11 a12 a13 (am_lf (s.2 0)) (am_lf (s.2 1)) (am_lf (s.2 2)) (am_lf (s.2 3)) a18 a19) (fun a s => Inv (a * 11) s.1 s.2 ∧ (∀ a', a' < a → L 1 a' = 0 → am_hs s.1 s.2 (fun c => L c a')) ∧ (∀ a' b, a' < a → b < n → 0 < L 1 a' → L 1 b < 0 → am_hs s.1 s.2 (am_cb L 1 a' b))) n 0 (n, L) (by omega) ⟨⟨by omega, by omega, fun _ _ _ => rfl, fun j h1 h2 => absurd h2 (by simp; omega)⟩, fun _ z => absurd z (by omega), fun _ _ z => absurd z (by omega)⟩ ?_ ?_
  · rintro f ⟨m, M⟩ ⟨hI, h2, h3⟩
    replace hI : Inv (n * 11) m M := hI
    have bm := bM _ _ _ hI
    obtain ⟨i1, i2, i3, i4⟩ := hI
    refine pk_le n n (fun _ => am_to170 (by omega) (fun j hj => bm j hj 1 (by omega)) (fun n' L' g1 g2 g3 => h n' L' (by omega) (fun j hj => ?_) (fun a ha hz0 => ?_) (fun a b ha hb p q => ?_))) (fun z => absurd z (by omega))
    · obtain ⟨i, hi, hi0, he⟩ := g2 j hj
      have : (fun c => L' c j) = fun c => M c i := by funext c; exact he c
      rw [this, he 1]
      refine ⟨?_, hi0⟩
      by_cases e : i < n
      · have e2 : (fun c => M c i) = fun c => L c i := by funext c; exact i3 i e c
        rw [e2]
        have hi1 : M 1 i = 0 := hi0
        rw [i3 i e 1] at hi1
        exact hz _ (hP i e) hi1
      · exact (i4 i (by omega) hi).1
    · -- a line without the first stays
      obtain ⟨j, hj, q, k, hq, hk, he⟩ := h2 a ha hz0
      replace hj : j < m := hj
      replace he : ∀ c, c < 4 → k * L c a = q * M c j := he
      have m0 : M 1 j = 0 := by
        have := he 1 (by omega)
        rw [hz0, Int.mul_zero] at this
        rcases Int.mul_eq_zero.mp this.symm with y | y
        · omega
        · exact y
      obtain ⟨j', hj', he'⟩ := g3 j hj m0
      exact ⟨j', hj', q, k, hq, hk, fun c hc => by rw [he' c]; exact he c hc⟩
    · obtain ⟨j, hj, q2, k, hq, hk, he⟩ := h3 a b ha hb p q
      replace hj : j < m := hj
      replace he : ∀ c, c < 4 → k * am_cb L 1 a b c = q2 * M c j := he
      have m0 : M 1 j = 0 := by
        have := he 1 (by omega)
        rw [am_cb1, Int.mul_zero] at this
        rcases Int.mul_eq_zero.mp this.symm with y | y
        · omega
        · exact y
      obtain ⟨j', hj', he'⟩ := g3 j hj m0
      exact ⟨j', hj', q2, k, hq, hk, fun c hc => by rw [he' c]; exact he c hc⟩
  · rintro f a ⟨m, M⟩ ha ⟨hI, h2, h3⟩ hw
    replace hI : Inv (a * 11) m M := hI
    replace h2 : ∀ a', a' < a → L 1 a' = 0 → am_hs m M (fun c => L c a') := h2
    replace h3 : ∀ a' b, a' < a → b < n → 0 < L 1 a' → L 1 b < 0 → am_hs m M (am_cb L 1 a' b) := h3
    -- the lines that a meets
    have inner : ∀ m M, Inv (a * 11 + 1) m M → (∀ a', a' < a + 1 → L 1 a' = 0 → am_hs m M (fun c => L c a')) → (∀ a' b, a' < a → b < n → 0 < L 1 a' → L 1 b < 0 → am_hs m M (am_cb L 1 a' b)) → ∃ f2, wX_takeFirstOut_48 post (wX_takeFirstOut_7 post (nI n) f) (nI n) (nI a) f2 0 pr_ wo_ ro_ tu_ un_ co_ fw_ wc_ wt_ wb_ (nI m) em_ hh_ ht_ hb_ hl_ lt_ lb_ br_ l3_ g3_ a1 a2 a3 a4 a5 a6 a7 a8 a9 a10 a11 a12 a13 (am_lf (M 0)) (am_lf (M 1)) (am_lf (M 2)) (am_lf (M 3)) a18 a19 := by
      intro m M hI h2 h3
      refine pk_loop (fun f2 b (s : Nat × (Nat → Nat → Int)) => wX_takeFirstOut_48 post (wX_takeFirstOut_7 post (nI n) f) (nI n) (nI a) f2 (nI b) pr_ wo_ ro_ tu_ un_ co_ fw_ wc_ wt_ wb_ (nI s.1) em_ hh_ ht_ hb_ hl_ lt_ lb_ br_ l3_ g3_ a1 a2 a3 a4 a5 a6 a7 a8 a9 a10 a11 a12 a13 (am_lf (s.2 0)) (am_lf (s.2 1)) (am_lf (s.2 2)) (am_lf (s.2 3)) a18 a19) (fun b s => Inv (a * 11 + 1 + b) s.1 s.2 ∧ (∀ a', a' < a + 1 → L 1 a' = 0 → am_hs s.1 s.2 (fun c => L c a')) ∧ (∀ a' b, a' < a → b < n → 0 < L 1 a' → L 1 b < 0 → am_hs s.1 s.2 (am_cb L 1 a' b)) ∧ (∀ b', b' < b → 0 < L 1 a → L 1 b' < 0 → am_hs s.1 s.2 (am_cb L 1 a b'))) n 0 (m, M) (by omega) ⟨hI, h2, h3, fun _ z => absurd z (by omega)⟩ ?_ ?_
      · rintro f2 ⟨m, M⟩ ⟨hI, h2, h3, h4⟩
        refine pk_le n n (fun _ => nm_r (nI_1 a) (hw (m, M) ⟨?_, h2, fun a' b ha' hb p q => ?_⟩)) (fun z => absurd z (by omega))
        · obtain ⟨i1, i2, i3, i4⟩ := hI
          replace i2 : m ≤ n + (a * 11 + 1 + n) := i2
          exact ⟨i1, by show m ≤ n + (a + 1) * 11; omega, i3, i4⟩
        · by_cases e : a' = a
          · subst e; exact h4 b hb p q
          · exact h3 a' b (by omega) hb p q
      · rintro f2 b ⟨m, M⟩ hb ⟨hI, h2, h3, h4⟩ hw2
        replace hI : Inv (a * 11 + 1 + b) m M := hI
        replace h2 : ∀ a', a' < a + 1 → L 1 a' = 0 → am_hs m M (fun c => L c a') := h2
        replace h3 : ∀ a' b, a' < a → b < n → 0 < L 1 a' → L 1 b < 0 → am_hs m M (am_cb L 1 a' b) := h3
        replace h4 : ∀ b', b' < b → 0 < L 1 a → L 1 b' < 0 → am_hs m M (am_cb L 1 a b') := h4
        have bm := bM _ _ _ hI
        have hI' := hI
        obtain ⟨i1, i2, i3, i4⟩ := hI'
        have nomeet : ¬ (0 < L 1 a ∧ L 1 b < 0) → wX_takeFirstOut_48 post (wX_takeFirstOut_7 post (nI n) f) (nI n) (nI a) f2 (nI (b + 1)) pr_ wo_ ro_ tu_ un_ co_ fw_ wc_ wt_ wb_ (nI m) em_ hh_ ht_ hb_ hl_ lt_ lb_ br_ l3_ g3_ a1 a2 a3 a4 a5 a6 a7 a8 a9 a10 a11 a12 a13 (am_lf (M 0)) (am_lf (M 1)) (am_lf (M 2)) (am_lf (M 3)) a18 a19 := by
          intro hno
          refine hw2 (m, M) ⟨⟨i1, by show m ≤ n + (a * 11 + 1 + (b + 1)); omega, i3, i4⟩, h2, h3, fun b' hb' p q => ?_⟩
          by_cases e : b' = b
          · subst e; exact absurd ⟨p, q⟩ hno
          · exact h4 b' (by omega) p q
        have va : ∀ c, am_lf (M c) (nI a).toNatClampNeg = am_L (L c a) := fun c => by rw [nI_clamp (by omega)]; exact congrArg am_L (i3 a ha c)
        have vb : ∀ c, am_lf (M c) (nI b).toNatClampNeg = am_L (L c b) := fun c => by rw [nI_clamp (by omega)]; exact congrArg am_L (i3 b hb c)
        refine pk_le n b (fun z => absurd z (by omega)) (fun _ => ⟨pk_in a 512 (by omega), ?_⟩)
        refine am_le (L 1 a) 0 (am_BW (bL a ha 1 (by omega))) am_W0 (fun z => nm_r (nI_1 b) (nomeet (by omega))) (fun p => ⟨pk_in b 512 (by omega), ?_⟩) (va 1)
        refine am_le 0 (L 1 b) am_W0 (am_BW (bL b hb 1 (by omega))) (fun z => nm_r (nI_1 b) (nomeet (by omega))) (fun q => ?_) rfl (vb 1)
        refine ⟨pk_in a 512 (by omega), nm_r (va 1) ⟨pk_in b 512 (by omega), nm_r (e' := am_L (-(L 1 b))) (by rw [vb 1, am_Lneg]) ⟨pk_in a 512 (by omega), pk_in b 512 (by omega), pk_in a 512 (by omega), pk_in b 512 (by omega), pk_in a 512 (by omega), pk_in b 512 (by omega), ?_⟩⟩⟩
        have ec : ∀ c, am_lf (M c) (nI a).toNatClampNeg * am_L (-(L 1 b)) + am_lf (M c) (nI b).toNatClampNeg * am_L (L 1 a) = am_L (am_cb L 1 a b c) := fun c => by
          rw [va, vb, am_Lmul, am_Lmul, am_Ladd]; rfl
        rw [ec 0, ec 2, ec 3]
        have hv := hcb a b ha hb p q
        have hz1 : P1 (am_z1 (am_cb L 1 a b)) := hsc1 _ _ (fun c hc => (am_z1e (am_cb1 L a b) c hc).symm) hv
        refine am_addLine (v := am_z1 (am_cb L 1 a b)) (by omega) bm (pb1 _ hz1) (fun m' M' g1 g2 g3 g4 g5 => nm_r (nI_1 b) (hw2 (m', M') ⟨addI _ m M m' M' _ hI hz1 rfl g1 g2 g3 g4, fun a' ha' z => am_hsm (h2 a' ha' z) g1 g3, fun a' b' ha' hb' p q => am_hsm (h3 a' b' ha' hb' p q) g1 g3, fun b' hb' p' q' => ?_⟩))
        by_cases e : b' = b
        · subst e; exact am_hsc g5 (am_z1e (am_cb1 L a b'))
        · exact am_hsm (h4 b' (by omega) p' q') g1 g3
    have bm := bM _ _ _ hI
    have hI' := hI
    obtain ⟨i1, i2, i3, i4⟩ := hI'
    have va : ∀ c, am_lf (M c) (nI a).toNatClampNeg = am_L (L c a) := fun c => by rw [nI_clamp (by omega)]; exact congrArg am_L (i3 a ha c)
    refine pk_le n a (fun z => absurd z (by omega)) (fun _ => ⟨pk_in a 512 (by omega), ?_⟩)
    refine am_eq (L 1 a) 0 (am_BW (bL a ha 1 (by omega))) am_W0 (fun z => ⟨pk_in a 512 (by omega), pk_in a 512 (by omega), pk_in a 512 (by omega), ?_⟩) (fun z => ?_) (va 1)
    · rw [va 0, va 2, va 3]
      have hv := hz _ (hP a ha) z
      have hz1 : P1 (am_z1 (fun c => L c a)) := hsc1 _ _ (fun c hc => (am_z1e (v := fun c => L c a) z c hc).symm) hv
      refine am_addLine (v := am_z1 (fun c => L c a)) (by omega) bm (pb1 _ hz1) (fun m' M' g1 g2 g3 g4 g5 => inner m' M' (addI _ m M m' M' _ hI hz1 rfl g1 g2 g3 g4) (fun a' ha' z' => ?_) (fun a' b ha' hb p q => am_hsm (h3 a' b ha' hb p q) g1 g3))
      by_cases e : a' = a
      · subst e; exact am_hsc g5 (am_z1e (v := fun c => L c a') z)
      · exact am_hsm (h2 a' (by omega) z') g1 g3
    · refine inner m M ⟨i1, by omega, i3, i4⟩ (fun a' ha' z' => ?_) h3
      by_cases e : a' = a
      · subst e; exact absurd z' z
      · exact h2 a' (by omega) z'
end
end
section
/-! bounds of the worth: s 0 empty, s 1 .. s 3 from above, s 4 .. s 6 from below -/
def am_sv (s : Nat → Int) : Prop := (s 0 = 0 ∨ s 0 = 1) ∧ (s 1 = 0 ∨ (s 1 = 1 ∧ 0 < s 3 ∧ s 3 ≤ 20000 ∧ (s 2).natAbs ≤ 3000000)) ∧ (s 4 = 0 ∨ (s 4 = 1 ∧ 0 < s 6 ∧ s 6 ≤ 20000 ∧ (s 5).natAbs ≤ 3000000))
/-- what factor * worth <= bound has left -/
def am_ef (f b : Int) (s : Nat → Int) : Prop := (0 < f → s 1 = 1 ∧ s 2 * f ≤ b * s 3) ∧ (f < 0 → s 4 = 1 ∧ -b * s 6 ≤ s 5 * -f) ∧ (f = 0 → b < 0 → s 0 = 1)
/-- the worth W / D is within -/
def am_sd (D W : Int) (s : Nat → Int) : Prop := s 0 = 0 ∧ (s 1 = 1 → W * s 3 ≤ s 2 * D) ∧ (s 4 = 1 → s 5 * D ≤ W * s 6)
theorem am_efp {f b f' b' q k : Int} {s : Nat → Int} (hq : 0 < q) (hk : 0 < k) (ef : k * f' = q * f) (eb : k * b' = q * b) (h : am_ef f b s) : am_ef f' b' s := by
  obtain ⟨h1, h2, h3⟩ := h
  have sg : ∀ x y : Int, k * x = q * y → (0 < x → 0 < y) ∧ (x < 0 → y < 0) ∧ (x = 0 → y = 0) := by
    intro x y e
    refine ⟨fun hx => ?_, fun hx => ?_, fun hx => ?_⟩
    · have := Int.mul_pos hk hx
      rcases Int.lt_or_le 0 y with z | z
      · exact z
      · have := Int.mul_nonpos_of_nonneg_of_nonpos (show 0 ≤ q by omega) z
        omega
    · have := Int.mul_neg_of_pos_of_neg hk hx
      rcases Int.lt_or_le y 0 with z | z
      · exact z
      · have := Int.mul_nonneg (show 0 ≤ q by omega) z
        omega
    · subst hx
      rw [Int.mul_zero] at e
      rcases Int.mul_eq_zero.mp e.symm with z | z
      · omega
      · exact z
  obtain ⟨f1, f2, f3⟩ := sg f' f ef
  obtain ⟨b1, b2, b3⟩ := sg b' b eb
  refine ⟨fun hf => ?_, fun hf => ?_, fun hf hb => h3 (f3 hf) (b2 hb)⟩
  · obtain ⟨a1, a2⟩ := h1 (f1 hf)
    refine ⟨a1, Int.le_of_mul_le_mul_left (a := k) ?_ hk⟩
    have e1 : k * (s 2 * f') = q * (s 2 * f) := by
      have : k * (s 2 * f') = s 2 * (k * f') := by grind
      rw [this, ef]; grind
    have e2 : k * (b' * s 3) = q * (b * s 3) := by
      have : k * (b' * s 3) = (k * b') * s 3 := by grind
      rw [this, eb]; grind
    rw [e1, e2]
    exact Int.mul_le_mul_of_nonneg_left a2 (by omega)
  · obtain ⟨a1, a2⟩ := h2 (f2 hf)
    refine ⟨a1, Int.le_of_mul_le_mul_left (a := k) ?_ hk⟩
    have e1 : k * (s 5 * -f') = q * (s 5 * -f) := by
      have : k * (s 5 * -f') = -(s 5 * (k * f')) := by grind
      rw [this, ef]; grind
    have e2 : k * (-b' * s 6) = q * (-b * s 6) := by
      have : k * (-b' * s 6) = -((k * b') * s 6) := by grind
      rw [this, eb]; grind
    rw [e1, e2]
    exact Int.mul_le_mul_of_nonneg_left a2 (by omega)
theorem am_tr {a b c d e f : Int} (hb : 0 < b) (hd : 0 < d) (hf : 0 < f) (h1 : a * d < c * b) (h2 : c * f ≤ e * d) : a * f ≤ e * b := by
  refine Int.le_of_mul_le_mul_left (a := d) ?_ hd
  have x1 := Int.mul_lt_mul_of_pos_left h1 hf
  have x2 := Int.mul_le_mul_of_nonneg_left h2 (show 0 ≤ b by omega)
  have e1 : d * (a * f) = f * (a * d) := by grind
  have e2 : d * (e * b) = b * (e * d) := by grind
  have e3 : f * (c * b) = b * (c * f) := by grind
  omega
section
variable {pr_ wo_ ro_ tu_ co_ fw_ wc_ li_ em_ hh_ hl_ br_ l3_ g3_ : Int32} {un_ wt_ wb_ ht_ hb_ lt_ lb_ : Int64} {a1 a2 a3 a4 a5 a6 a7 a8 a9 a11 a12 a18 a19 : Nat → Int32} {a10 a13 a14 a15 a16 a17 : Nat → Int64}
theorem am_boundWorth {post : St2 → Prop} {s : Nat → Int} {f b : Int} (hs : am_sv s) (hf : f.natAbs ≤ 20000) (hb : b.natAbs ≤ 3000000)
    (h : ∀ s', am_sv s' → am_ef f b s' → (∀ f' b', am_ef f' b' s → am_ef f' b' s') → (∀ D W, 0 < D → am_sd D W s → f * W ≤ b * D → am_sd D W s') → post (pr_, wo_, ro_, tu_, un_, co_, fw_, wc_, wt_, wb_, li_, am_I (s' 0), am_I (s' 1), am_L (s' 2), am_L (s' 3), am_I (s' 4), am_L (s' 5), am_L (s' 6), br_, l3_, g3_, a1, a2, a3, a4, a5, a6, a7, a8, a9, a10, a11, a12, a13, a14, a15, a16, a17, a18, a19)) :
    wpX_boundWorth post (pr_, wo_, ro_, tu_, un_, co_, fw_, wc_, wt_, wb_, li_, am_I (s 0), am_I (s 1), am_L (s 2), am_L (s 3), am_I (s 4), am_L (s 5), am_L (s 6), br_, l3_, g3_, a1, a2, a3, a4, a5, a6, a7, a8, a9, a10, a11, a12, a13, a14, a15, a16, a17, a18, a19) (am_L f) (am_L b) := by
  have wf : am_W f := by unfold am_W; omega
  have wb : am_W b := by unfold am_W; omega
  have wnf : am_W (-f) := by unfold am_W; omega
  obtain ⟨s0, s1, s4⟩ := hs
  have v0 : am_V 0 := by unfold am_V; omega
  have vs0 : am_V (s 0) := by unfold am_V; omega
  have vs1 : am_V (s 1) := by unfold am_V; omega
  have vs4 : am_V (s 4) := by unfold am_V; omega
  unfold wpX_boundWorth
  refine am_eq f 0 wf am_W0 (fun zf => ?_) (fun zf => ?_)
  · subst zf
    have put : ∀ x : Int, (x = 0 ∨ x = 1) → (b < 0 → x = 1) → (s 0 = 1 → x = 1) → (s 0 = 0 → 0 ≤ b → x = 0) → post (pr_, wo_, ro_, tu_, un_, co_, fw_, wc_, wt_, wb_, li_, am_I ((am_up s 0 x) 0), am_I ((am_up s 0 x) 1), am_L ((am_up s 0 x) 2), am_L ((am_up s 0 x) 3), am_I ((am_up s 0 x) 4), am_L ((am_up s 0 x) 5), am_L ((am_up s 0 x) 6), br_, l3_, g3_, a1, a2, a3, a4, a5, a6, a7, a8, a9, a10, a11, a12, a13, a14, a15, a16, a17, a18, a19) := by
      intro x hx hx1 hx2 hx3
      refine h (am_up s 0 x) ⟨hx, s1, s4⟩ ⟨fun z => absurd z (by omega), fun z => absurd z (by omega), fun _ z => hx1 z⟩ (fun f' b' he => ⟨he.1, he.2.1, fun e1 e2 => hx2 (he.2.2 e1 e2)⟩) (fun D W hD hd hle => ⟨hx3 hd.1 ?_, hd.2.1, hd.2.2⟩)
      rw [Int.zero_mul] at hle
      rcases Int.lt_or_le b 0 with y | y
      · have := Int.mul_neg_of_neg_of_pos y hD
        omega
      · exact y
    refine am_ieq (s 0) 0 vs0 v0 (fun z => am_le 0 b am_W0 wb (fun z2 => put 0 (Or.inl rfl) (fun _ => by omega) (fun _ => by omega) (fun _ _ => rfl)) (fun z2 => put 1 (Or.inr rfl) (fun _ => rfl) (fun _ => rfl) (fun _ _ => by omega))) (fun z => put 1 (Or.inr rfl) (fun _ => rfl) (fun _ => rfl) (fun _ _ => by omega))
  · refine am_le f 0 wf am_W0 (fun zl => ?_) (fun zp => ?_)
    · -- from below
      have neg : f < 0 := by omega
      have new : (s 4 = 1 → s 5 * -f < -b * s 6) → wX_boundWorth_134 post (am_L f) (am_L b) pr_ wo_ ro_ tu_ un_ co_ fw_ wc_ wt_ wb_ li_ (am_I (s 0)) (am_I (s 1)) (am_L (s 2)) (am_L (s 3)) (am_I (s 4)) (am_L (s 5)) (am_L (s 6)) br_ l3_ g3_ a1 a2 a3 a4 a5 a6 a7 a8 a9 a10 a11 a12 a13 a14 a15 a16 a17 a18 a19 := by
        intro hsh
        unfold wX_boundWorth_134 wX_boundWorth_139 wX_boundWorth_156
        refine br_f (by decide) (br_f (by decide) (nm_r (am_Lneg f) ?_))
        rw [am_Lneg b]
        refine h (am_up (am_up (am_up s 4 1) 5 (-b)) 6 (-f)) ⟨s0, s1, Or.inr ⟨rfl, show 0 < -f by omega, show -f ≤ 20000 by omega, show (-b).natAbs ≤ 3000000 by omega⟩⟩ ⟨fun z => absurd z (by omega), fun _ => ⟨rfl, Int.le_refl _⟩, fun z => absurd z (by omega)⟩ (fun f' b' he => ⟨he.1, fun e1 => ⟨rfl, ?_⟩, he.2.2⟩) (fun D W hD hd hle => ⟨hd.1, hd.2.1, fun _ => ?_⟩)
        · show -b' * -f ≤ -b * -f'
          obtain ⟨a1, a2⟩ := he.2.1 e1
          rcases s4 with y | ⟨y, y2, _, _⟩
          · omega
          · have := hsh y
            refine Int.le_of_mul_le_mul_left (a := s 6) ?_ y2
            have x1 := Int.mul_lt_mul_of_pos_left this (show 0 < -f' by omega)
            have x2 := Int.mul_le_mul_of_nonneg_left a2 (show 0 ≤ -f by omega)
            have e1 : s 6 * (-b' * -f) = -f * (-b' * s 6) := by grind
            have e2 : s 6 * (-b * -f') = -f' * (-b * s 6) := by grind
            have e3 : -f' * (s 5 * -f) = -f * (s 5 * -f') := by grind
            omega
        · show -b * D ≤ W * -f
          have e1 : -b * D = -(b * D) := by grind
          have e2 : W * -f = -(f * W) := by grind
          omega
      refine am_ieq (s 4) 0 vs4 v0 (fun z => new (fun y => by omega)) (fun z => ?_)
      rcases s4 with y | ⟨y, y2, y3, y4⟩
      · exact absurd y z
      · have w1 := am_bm (show (-b).natAbs ≤ 3000000 by omega) (show (s 6).natAbs ≤ 20000 by omega)
        have w2 := am_bm y4 (show (-f).natAbs ≤ 20000 by omega)
        rw [am_Lneg, am_Lneg, am_Lmul, am_Lmul]
        refine am_le (-b * s 6) (s 5 * -f) (by unfold am_W; omega) (by unfold am_W; omega) (fun zc => ?_) (fun zc => new (fun _ => zc))
        unfold wX_boundWorth_139 wX_boundWorth_156
        refine br_t rfl (br_t rfl ?_)
        have es : am_up s 4 1 = s := by
          funext j
          unfold am_up
          split
          · rename_i e; rw [e, y]
          · rfl
        refine h (am_up s 4 1) ?_ ?_ ?_ ?_ <;> rw [es]
        · exact ⟨s0, s1, Or.inr ⟨y, y2, y3, y4⟩⟩
        · exact ⟨fun z => absurd z (by omega), fun _ => ⟨y, zc⟩, fun z => absurd z (by omega)⟩
        · exact fun _ _ he => he
        · exact fun _ _ _ hd _ => hd
    · -- from above
      have new : (s 1 = 1 → b * s 3 < s 2 * f) → wX_boundWorth_60 post (am_L f) (am_L b) pr_ wo_ ro_ tu_ un_ co_ fw_ wc_ wt_ wb_ li_ (am_I (s 0)) (am_I (s 1)) (am_L (s 2)) (am_L (s 3)) (am_I (s 4)) (am_L (s 5)) (am_L (s 6)) br_ l3_ g3_ a1 a2 a3 a4 a5 a6 a7 a8 a9 a10 a11 a12 a13 a14 a15 a16 a17 a18 a19 := by
        intro hsh
        unfold wX_boundWorth_60 wX_boundWorth_65 wX_boundWorth_81
        refine br_f (by decide) (br_f (by decide) ?_)
        refine h (am_up (am_up (am_up s 1 1) 2 b) 3 f) ⟨s0, Or.inr ⟨rfl, zp, show f ≤ 20000 by omega, hb⟩, s4⟩ ⟨fun _ => ⟨rfl, Int.le_refl _⟩, fun z => absurd z (by omega), fun z => absurd z (by omega)⟩ (fun f' b' he => ⟨fun e1 => ⟨rfl, ?_⟩, he.2.1, he.2.2⟩) (fun D W hD hd hle => ⟨hd.1, fun _ => ?_, hd.2.2⟩)
        · show b * f' ≤ b' * f
          obtain ⟨a1, a2⟩ := he.1 e1
          rcases s1 with y | ⟨y, y2, _, _⟩
          · omega
          · exact am_tr zp y2 e1 (hsh y) a2
        · show W * f ≤ b * D
          have e2 : W * f = f * W := Int.mul_comm _ _
          omega
      refine am_ieq (s 1) 0 vs1 v0 (fun z => new (fun y => by omega)) (fun z => ?_)
      rcases s1 with y | ⟨y, y2, y3, y4⟩
      · exact absurd y z
      · have w1 := am_bm hb (show (s 3).natAbs ≤ 20000 by omega)
        have w2 := am_bm y4 hf
        rw [am_Lmul, am_Lmul]
        refine am_le (s 2 * f) (b * s 3) (by unfold am_W; omega) (by unfold am_W; omega) (fun zc => ?_) (fun zc => new (fun _ => zc))
        unfold wX_boundWorth_65 wX_boundWorth_81
        refine br_t rfl (br_t rfl ?_)
        have es : am_up s 1 1 = s := by
          funext j
          unfold am_up
          split
          · rename_i e; rw [e, y]
          · rfl
        refine h (am_up s 1 1) ?_ ?_ ?_ ?_ <;> rw [es]
        · exact ⟨s0, Or.inr ⟨y, y2, y3, y4⟩, s4⟩
        · exact ⟨fun _ => ⟨y, zc⟩, fun z => absurd z (by omega), fun z => absurd z (by omega)⟩
        · exact fun _ _ he => he
        · exact fun _ _ _ hd _ => hd
theorem am_takeSecondOut {post : St2 → Prop} {n : Nat} {L : Nat → Nat → Int} {s : Nat → Int} {fs : Prop} {D W : Int} (hn : n ≤ 400) (hD : 0 < D) (hs : am_sv s) (h0 : am_sd D W s)
    (b0 : ∀ a, a < n → (L 0 a).natAbs ≤ 98 ∧ (L 2 a).natAbs ≤ 98 ∧ (L 3 a).natAbs ≤ 12600) (k0 : fs → ∀ a, a < n → L 2 a = 0 → L 0 a * W ≤ L 3 a * D) (kc : fs → ∀ a b, a < n → b < n → 0 < L 2 a → L 2 b < 0 → am_cb L 2 a b 0 * W ≤ am_cb L 2 a b 3 * D)
    (h : ∀ s, am_sv s → (∀ a, a < n → L 2 a = 0 → am_ef (L 0 a) (L 3 a) s) → (∀ a b, a < n → b < n → 0 < L 2 a → L 2 b < 0 → am_ef (am_cb L 2 a b 0) (am_cb L 2 a b 3) s) → (fs → am_sd D W s) → post (pr_, wo_, ro_, tu_, un_, co_, fw_, wc_, wt_, wb_, nI n, am_I (s 0), am_I (s 1), am_L (s 2), am_L (s 3), am_I (s 4), am_L (s 5), am_L (s 6), br_, l3_, g3_, a1, a2, a3, a4, a5, a6, a7, a8, a9, a10, a11, a12, a13, am_lf (L 0), am_lf (L 1), am_lf (L 2), am_lf (L 3), a18, a19)) :
    wpX_takeSecondOut post (pr_, wo_, ro_, tu_, un_, co_, fw_, wc_, wt_, wb_, nI n, am_I (s 0), am_I (s 1), am_L (s 2), am_L (s 3), am_I (s 4), am_L (s 5), am_L (s 6), br_, l3_, g3_, a1, a2, a3, a4, a5, a6, a7, a8, a9, a10, a11, a12, a13, am_lf (L 0), am_lf (L 1), am_lf (L 2), am_lf (L 3), a18, a19) := by
  unfold wpX_takeSecondOut
  have B : ∀ a, a < n → ∀ c, (c = 0 ∨ c = 2 ∨ c = 3) → am_W (L c a) := by
    intro a ha c hc
    have := b0 a ha
    unfold am_W
    rcases hc with e | e | e <;> subst e <;> omega
  have va : ∀ a, a < n → ∀ c, am_lf (L c) (nI a).toNatClampNeg = am_L (L c a) := fun a ha c => by rw [nI_clamp (by omega)]; rfl
  refine pk_loop (fun f a (s : Nat → Int) => wX_takeSecondOut_2 post f (nI a) pr_ wo_ ro_ tu_ un_ co_ fw_ wc_ wt_ wb_ (nI n) (am_I (s 0)) (am_I (s 1)) (am_L (s 2)) (am_L (s 3)) (am_I (s 4)) (am_L (s 5)) (am_L (s 6)) br_ l3_ g3_ a1 a2 a3 a4 a5 a6 a7 a8 a9 a10 a11 a12 a13 (am_lf (L 0)) (am_lf (L 1)) (am_lf (L 2)) (am_lf (L 3)) a18 a19) (fun a s => am_sv s ∧ (fs → am_sd D W s) ∧ (∀ a', a' < a → L 2 a' = 0 → am_ef (L 0 a') (L 3 a') s) ∧ (∀ a' b, a' < a → b < n → 0 < L 2 a' → L 2 b < 0 → am_ef (am_cb L 2 a' b 0) (am_cb L 2 a' b 3) s)) n 0 s (by omega) ⟨hs, fun _ => h0, fun _ z => absurd z (by omega), fun _ _ z => absurd z (by omega)⟩ ?_ ?_
  · rintro f s ⟨h1, h2, h3, h4⟩
    exact pk_le n n (fun _ => h s h1 h3 h4 h2) (fun z => absurd z (by omega))
  · rintro f a s ha ⟨h1, h2, h3, h4⟩ hw
    have inner : ∀ s, am_sv s → (fs → am_sd D W s) → (∀ a', a' < a + 1 → L 2 a' = 0 → am_ef (L 0 a') (L 3 a') s) → (∀ a' b, a' < a → b < n → 0 < L 2 a' → L 2 b < 0 → am_ef (am_cb L 2 a' b 0) (am_cb L 2 a' b 3) s) → ∃ f2, wX_takeSecondOut_39 post (wX_takeSecondOut_2 post f) (nI a) f2 0 pr_ wo_ ro_ tu_ un_ co_ fw_ wc_ wt_ wb_ (nI n) (am_I (s 0)) (am_I (s 1)) (am_L (s 2)) (am_L (s 3)) (am_I (s 4)) (am_L (s 5)) (am_L (s 6)) br_ l3_ g3_ a1 a2 a3 a4 a5 a6 a7 a8 a9 a10 a11 a12 a13 (am_lf (L 0)) (am_lf (L 1)) (am_lf (L 2)) (am_lf (L 3)) a18 a19 := by
      intro s h1 h2 h3 h4
      refine pk_loop (fun f2 b (s : Nat → Int) => wX_takeSecondOut_39 post (wX_takeSecondOut_2 post f) (nI a) f2 (nI b) pr_ wo_ ro_ tu_ un_ co_ fw_ wc_ wt_ wb_ (nI n) (am_I (s 0)) (am_I (s 1)) (am_L (s 2)) (am_L (s 3)) (am_I (s 4)) (am_L (s 5)) (am_L (s 6)) br_ l3_ g3_ a1 a2 a3 a4 a5 a6 a7 a8 a9 a10 a11 a12 a13 (am_lf (L 0)) (am_lf (L 1)) (am_lf (L 2)) (am_lf (L 3)) a18 a19) (fun b s => am_sv s ∧ (fs → am_sd D W s) ∧ (∀ a', a' < a + 1 → L 2 a' = 0 → am_ef (L 0 a') (L 3 a') s) ∧ (∀ a' b, a' < a → b < n → 0 < L 2 a' → L 2 b < 0 → am_ef (am_cb L 2 a' b 0) (am_cb L 2 a' b 3) s) ∧ (∀ b', b' < b → 0 < L 2 a → L 2 b' < 0 → am_ef (am_cb L 2 a b' 0) (am_cb L 2 a b' 3) s)) n 0 s (by omega) ⟨h1, h2, h3, h4, fun _ z => absurd z (by omega)⟩ ?_ ?_
      · rintro f2 s ⟨h1, h2, h3, h4, h5⟩
        refine pk_le n n (fun _ => nm_r (nI_1 a) (hw s ⟨h1, h2, h3, fun a' b ha' hb p q => ?_⟩)) (fun z => absurd z (by omega))
        by_cases e : a' = a
        · subst e; exact h5 b hb p q
        · exact h4 a' b (by omega) hb p q
      · rintro f2 b s hb ⟨h1, h2, h3, h4, h5⟩ hw2
        have nomeet : ¬ (0 < L 2 a ∧ L 2 b < 0) → wX_takeSecondOut_39 post (wX_takeSecondOut_2 post f) (nI a) f2 (nI (b + 1)) pr_ wo_ ro_ tu_ un_ co_ fw_ wc_ wt_ wb_ (nI n) (am_I (s 0)) (am_I (s 1)) (am_L (s 2)) (am_L (s 3)) (am_I (s 4)) (am_L (s 5)) (am_L (s 6)) br_ l3_ g3_ a1 a2 a3 a4 a5 a6 a7 a8 a9 a10 a11 a12 a13 (am_lf (L 0)) (am_lf (L 1)) (am_lf (L 2)) (am_lf (L 3)) a18 a19 := by
          intro hno
          refine hw2 s ⟨h1, h2, h3, h4, fun b' hb' p q => ?_⟩
          by_cases e : b' = b
          · subst e; exact absurd ⟨p, q⟩ hno
          · exact h5 b' (by omega) p q
        refine pk_le n b (fun z => absurd z (by omega)) (fun _ => ⟨pk_in a 512 (by omega), ?_⟩)
        refine am_le (L 2 a) 0 (B a ha 2 (by omega)) am_W0 (fun z => nm_r (nI_1 b) (nomeet (by omega))) (fun p => ⟨pk_in b 512 (by omega), ?_⟩) (va a ha 2)
        refine am_le 0 (L 2 b) am_W0 (B b hb 2 (by omega)) (fun z => nm_r (nI_1 b) (nomeet (by omega))) (fun q => ?_) rfl (va b hb 2)
        refine ⟨pk_in a 512 (by omega), nm_r (va a ha 2) ⟨pk_in b 512 (by omega), nm_r (e' := am_L (-(L 2 b))) (by rw [va b hb 2, am_Lneg]) ⟨pk_in a 512 (by omega), pk_in b 512 (by omega), pk_in a 512 (by omega), pk_in b 512 (by omega), ?_⟩⟩⟩
        have ec : ∀ c, am_lf (L c) (nI a).toNatClampNeg * am_L (-(L 2 b)) + am_lf (L c) (nI b).toNatClampNeg * am_L (L 2 a) = am_L (am_cb L 2 a b c) := fun c => by
          rw [va a ha, va b hb, am_Lmul, am_Lmul, am_Ladd]; rfl
        rw [ec 0, ec 3]
        obtain ⟨p0, p2, p3⟩ := b0 a ha
        obtain ⟨q0, q2, q3⟩ := b0 b hb
        have m1 := am_bm p0 (show (-(L 2 b)).natAbs ≤ 98 by omega)
        have m2 := am_bm q0 p2
        have m3 := am_bm p3 (show (-(L 2 b)).natAbs ≤ 98 by omega)
        have m4 := am_bm q3 p2
        refine am_boundWorth h1 (by unfold am_cb; omega) (by unfold am_cb; omega) (fun s' g1 g2 g3 g4 => nm_r (nI_1 b) (hw2 s' ⟨g1, fun hfs => g4 D W hD (h2 hfs) (kc hfs a b ha hb p q), fun a' ha' z => g3 _ _ (h3 a' ha' z), fun a' b' ha' hb' p q => g3 _ _ (h4 a' b' ha' hb' p q), fun b' hb' p' q' => ?_⟩))
        by_cases e : b' = b
        · subst e; exact g2
        · exact g3 _ _ (h5 b' (by omega) p' q')
    obtain ⟨p0, p2, p3⟩ := b0 a ha
    refine pk_le n a (fun z => absurd z (by omega)) (fun _ => ⟨pk_in a 512 (by omega), ?_⟩)
    refine am_eq (L 2 a) 0 (B a ha 2 (by omega)) am_W0 (fun z => ⟨pk_in a 512 (by omega), pk_in a 512 (by omega), ?_⟩) (fun z => ?_) (va a ha 2)
    · rw [va a ha 0, va a ha 3]
      refine am_boundWorth h1 (by omega) (by omega) (fun s' g1 g2 g3 g4 => inner s' g1 (fun hfs => g4 D W hD (h2 hfs) (k0 hfs a ha z)) (fun a' ha' z' => ?_) (fun a' b' ha' hb' p q => g3 _ _ (h4 a' b' ha' hb' p q)))
      by_cases e : a' = a
      · subst e; exact g2
      · exact g3 _ _ (h3 a' (by omega) z')
    · refine inner s h1 h2 (fun a' ha' z' => ?_) h4
      by_cases e : a' = a
      · subst e; exact absurd z' z
      · exact h3 a' (by omega) z'
end
end
section
/-! taking one amount out of a line, by its own bounds -/
def am_tg (v : Nat → Int) (z : Nat) : Nat → Int := fun c => if c = z then 0 else if c = 3 then v 3 + 20 * am_ps (-(v z)) else v c
theorem am_hsz {n : Nat} {L : Nat → Nat → Int} {v : Nat → Int} {z : Nat} (hz : z < 4) {j : Nat} {q k : Int} (hq : 0 < q) (hk : 0 < k) (e : ∀ c, c < 4 → k * v c = q * L c j) : (0 < v z → 0 < L z j) ∧ (v z < 0 → L z j < 0) ∧ (v z = 0 → L z j = 0) := by
  have e1 := e z hz
  refine ⟨fun h => ?_, fun h => ?_, fun h => ?_⟩
  · have := Int.mul_pos hk h
    rcases Int.lt_or_le 0 (L z j) with y | y
    · exact y
    · have := Int.mul_nonpos_of_nonneg_of_nonpos (show 0 ≤ q by omega) y
      omega
  · have := Int.mul_neg_of_pos_of_neg hk h
    rcases Int.lt_or_le (L z j) 0 with y | y
    · exact y
    · have := Int.mul_nonneg (show 0 ≤ q by omega) y
      omega
  · rw [h, Int.mul_zero] at e1
    rcases Int.mul_eq_zero.mp e1.symm with y | y
    · omega
    · exact y
theorem am_elimP {n : Nat} {L : Nat → Nat → Int} {v : Nat → Int} {z : Nat} {p : Int} (hz : z = 1 ∨ z = 2) (hp : 0 < p) (h : am_hs n L v) (hu : am_hs n L (fun c => if c = z then p else if c = 3 then 20 * p else 0)) (hd : am_hs n L (fun c => if c = z then -p else 0)) :
    (∃ a, a < n ∧ L z a = 0 ∧ ∃ Q K : Int, 0 < Q ∧ 0 < K ∧ ∀ c, c < 4 → K * am_tg v z c = Q * L c a) ∨ (∃ a b, a < n ∧ b < n ∧ 0 < L z a ∧ L z b < 0 ∧ ∃ Q K : Int, 0 < Q ∧ 0 < K ∧ ∀ c, c < 4 → K * am_tg v z c = Q * am_cb L z a b c) := by
  have z4 : z < 4 := by omega
  obtain ⟨jv, hjv, qv, kv, hqv, hkv, ev⟩ := h
  have sv := am_hsz (n := n) z4 hqv hkv ev
  rcases Int.lt_trichotomy (v z) 0 with hf | hf | hf
  · right
    obtain ⟨ju, hju, qu, ku, hqu, hku, eu⟩ := hu
    have su := am_hsz (n := n) z4 hqu hku eu
    have luz : 0 < L z ju := su.1 (by simp; exact hp)
    refine ⟨ju, jv, hju, hjv, luz, sv.2.1 hf, qu * qv, ku * kv * p, Int.mul_pos hqu hqv, Int.mul_pos (Int.mul_pos hku hkv) hp, fun c hc => ?_⟩
    have e1 := eu c hc
    have e2 := ev c hc
    have e3 := eu z z4
    have e4 := ev z z4
    simp only [if_true] at e3
    have R : qu * qv * am_cb L z ju jv c = (qu * L c ju) * -(qv * L z jv) + (qv * L c jv) * (qu * L z ju) := by unfold am_cb; grind
    rw [R, ← e1, ← e2, ← e3, ← e4]
    unfold am_tg am_ps
    rw [if_pos (show 0 < -(v z) by omega)]
    by_cases c1 : c = z
    · subst c1; simp only [if_true]; grind
    · simp only [if_neg c1]
      by_cases c3 : c = 3
      · subst c3; simp only [if_true]; grind
      · simp only [if_neg c3]; grind
  · left
    refine ⟨jv, hjv, sv.2.2 hf, qv, kv, hqv, hkv, fun c hc => ?_⟩
    rw [← ev c hc]
    unfold am_tg am_ps
    rw [hf, if_neg (show ¬ 0 < -(0 : Int) by omega)]
    by_cases c1 : c = z
    · subst c1; rw [if_pos rfl, hf]
    · rw [if_neg c1]
      by_cases c3 : c = 3
      · subst c3; rw [if_pos rfl]; grind
      · rw [if_neg c3]
  · right
    obtain ⟨jd, hjd, qd, kd, hqd, hkd, ed⟩ := hd
    have sd := am_hsz (n := n) z4 hqd hkd ed
    have ldz : L z jd < 0 := sd.2.1 (by simp; exact hp)
    refine ⟨jv, jd, hjv, hjd, sv.1 hf, ldz, qv * qd, kv * kd * p, Int.mul_pos hqv hqd, Int.mul_pos (Int.mul_pos hkv hkd) hp, fun c hc => ?_⟩
    have e1 := ed c hc
    have e2 := ev c hc
    have e3 := ed z z4
    have e4 := ev z z4
    simp only [if_true] at e3
    have R : qv * qd * am_cb L z jv jd c = (qv * L c jv) * -(qd * L z jd) + (qd * L c jd) * (qv * L z jv) := by unfold am_cb; grind
    rw [R, ← e1, ← e2, ← e3, ← e4]
    unfold am_tg am_ps
    rw [if_neg (show ¬ 0 < -(v z) by omega)]
    by_cases c1 : c = z
    · subst c1; simp only [if_true]; grind
    · simp only [if_neg c1]
      by_cases c3 : c = 3
      · subst c3; simp only [if_true]; grind
      · simp only [if_neg c3]; grind
/-- .. into the lines behind -/
theorem am_elim1 {n n' : Nat} {L L' : Nat → Nat → Int} {v : Nat → Int} {p : Int} (hp : 0 < p) (h : am_hs n L v) (hu : am_hs n L (fun c => if c = 1 then p else if c = 3 then 20 * p else 0)) (hd : am_hs n L (fun c => if c = 1 then -p else 0))
    (g1 : ∀ a, a < n → L 1 a = 0 → am_hs n' L' (fun c => L c a)) (g2 : ∀ a b, a < n → b < n → 0 < L 1 a → L 1 b < 0 → am_hs n' L' (am_cb L 1 a b)) : am_hs n' L' (am_tg v 1) := by
  rcases am_elimP (Or.inl rfl) hp h hu hd with ⟨a, ha, e, Q, K, hQ, hK, he⟩ | ⟨a, b, ha, hb, p1, p2, Q, K, hQ, hK, he⟩
  · obtain ⟨j, hj, q, k, hq, hk, e2⟩ := g1 a ha e
    refine ⟨j, hj, Q * q, k * K, Int.mul_pos hQ hq, Int.mul_pos hk hK, fun c hc => ?_⟩
    have x1 := he c hc
    have x2 : k * L c a = q * L' c j := e2 c hc
    have : k * K * am_tg v 1 c = k * (K * am_tg v 1 c) := by grind
    rw [this, x1]
    have : k * (Q * L c a) = Q * (k * L c a) := by grind
    rw [this, x2]; grind
  · obtain ⟨j, hj, q, k, hq, hk, e2⟩ := g2 a b ha hb p1 p2
    refine ⟨j, hj, Q * q, k * K, Int.mul_pos hQ hq, Int.mul_pos hk hK, fun c hc => ?_⟩
    have x1 := he c hc
    have x2 := e2 c hc
    have : k * K * am_tg v 1 c = k * (K * am_tg v 1 c) := by grind
    rw [this, x1]
    have : k * (Q * am_cb L 1 a b c) = Q * (k * am_cb L 1 a b c) := by grind
    rw [this, x2]; grind
/-- .. and into the worth's bounds -/
theorem am_elim2 {n : Nat} {L : Nat → Nat → Int} {v s : Nat → Int} {p : Int} (hp : 0 < p) (h : am_hs n L v) (hu : am_hs n L (fun c => if c = 2 then p else if c = 3 then 20 * p else 0)) (hd : am_hs n L (fun c => if c = 2 then -p else 0))
    (g1 : ∀ a, a < n → L 2 a = 0 → am_ef (L 0 a) (L 3 a) s) (g2 : ∀ a b, a < n → b < n → 0 < L 2 a → L 2 b < 0 → am_ef (am_cb L 2 a b 0) (am_cb L 2 a b 3) s) : am_ef (v 0) (v 3 + 20 * am_ps (-(v 2))) s := by
  have t0 : am_tg v 2 0 = v 0 := by unfold am_tg; rw [if_neg (by omega), if_neg (by omega)]
  have t3 : am_tg v 2 3 = v 3 + 20 * am_ps (-(v 2)) := by unfold am_tg; rw [if_neg (by omega), if_pos rfl]
  rcases am_elimP (Or.inr rfl) hp h hu hd with ⟨a, ha, e, Q, K, hQ, hK, he⟩ | ⟨a, b, ha, hb, p1, p2, Q, K, hQ, hK, he⟩
  · have x0 := he 0 (by omega)
    have x3 := he 3 (by omega)
    rw [t0] at x0
    rw [t3] at x3
    exact am_efp hQ hK x0 x3 (g1 a ha e)
  · have x0 := he 0 (by omega)
    have x3 := he 3 (by omega)
    rw [t0] at x0
    rw [t3] at x3
    exact am_efp hQ hK x0 x3 (g2 a b ha hb p1 p2)
/-- a line of the worth alone -/
theorem am_elim0 {n : Nat} {L : Nat → Nat → Int} {v s : Nat → Int} (h : am_hs n L v) (h2 : v 2 = 0) (g1 : ∀ a, a < n → L 2 a = 0 → am_ef (L 0 a) (L 3 a) s) : am_ef (v 0) (v 3) s := by
  obtain ⟨j, hj, q, k, hq, hk, e⟩ := h
  have z := (am_hsz (n := n) (show 2 < 4 by omega) hq hk e).2.2 h2
  exact am_efp hq hk (e 0 (by omega)) (e 3 (by omega)) (g1 j hj z)
/-! a condition with the worth in place of one amount -/
def am_side (c : Int) : Int := if 0 ≤ c then 1 else -1
def am_size (c : Int) : Int := if 0 ≤ c then c else -c
def am_iv (As R Q : Nat → Int) (one row : Nat) (sg : Int) : Nat → Int := fun i =>
  if As one = 0 then (if i = 0 then sg * R (row * 3 + one) else if i = 1 then sg * R (row * 3 + (one + 1) % 3) else if i = 2 then sg * R (row * 3 + (one + 2) % 3) else if 0 < sg then Q row else 0)
  else (if i = 0 then am_side (As one) * (sg * R (row * 3 + one))
    else if i = 1 then am_size (As one) * (sg * R (row * 3 + (one + 1) % 3)) - am_side (As one) * (sg * R (row * 3 + one)) * As ((one + 1) % 3)
    else if i = 2 then am_size (As one) * (sg * R (row * 3 + (one + 2) % 3)) - am_side (As one) * (sg * R (row * 3 + one)) * As ((one + 2) % 3)
    else am_size (As one) * (if 0 < sg then Q row else 0))
theorem am_nab {x y : Int} {a b : Nat} (hx : x.natAbs ≤ a) (hy : y.natAbs ≤ b) : (x - y).natAbs ≤ a + b := by omega
theorem am_nB {x : Int} {a : Nat} (hx : x.natAbs ≤ a) (ha : a ≤ 1000000) : am_B x := by unfold am_B; omega
theorem am_sdb (c : Int) : (am_side c).natAbs ≤ 1 := by unfold am_side; split <;> omega
theorem am_szb {c : Int} {a : Nat} (h : c.natAbs ≤ a) : (am_size c).natAbs ≤ a := by unfold am_size; split <;> omega
theorem am_ivb {As R Q : Nat → Int} {one row : Nat} {sg : Int} (hA : am_s7 As) (hone : one < 3) (vr : ∀ i, i < 3 → (sg * R (row * 3 + i)).natAbs ≤ 7) (bb : ((if 0 < sg then Q row else 0 : Int)).natAbs ≤ 600) : ∀ c, c < 4 → am_B (am_iv As R Q one row sg c) := by
  have hj : (one + 1) % 3 < 3 := Nat.mod_lt _ (by omega)
  have hk : (one + 2) % 3 < 3 := Nat.mod_lt _ (by omega)
  have m1 := am_bm (am_sdb (As one)) (vr one hone)
  have sz := am_szb (hA one hone)
  have B0 := am_nB (vr one hone) (by decide)
  have B1 := am_nB (vr _ hj) (by decide)
  have B2 := am_nB (vr _ hk) (by decide)
  have B3 := am_nB bb (by decide)
  have C0 := am_nB m1 (by decide)
  have C1 := am_nB (am_nab (am_bm sz (vr _ hj)) (am_bm m1 (hA _ hj))) (by decide)
  have C2 := am_nB (am_nab (am_bm sz (vr _ hk)) (am_bm m1 (hA _ hk))) (by decide)
  have C3 := am_nB (am_bm sz bb) (by decide)
  intro c hc
  unfold am_iv
  split
  · split
    · exact B0
    · split
      · exact B1
      · split
        · exact B2
        · exact B3
  · split
    · exact C0
    · split
      · exact C1
      · split
        · exact C2
        · exact C3
section
variable {pr_ wo_ ro_ tu_ co_ fw_ wc_ li_ em_ hh_ hl_ br_ l3_ g3_ : Int32} {un_ wt_ wb_ ht_ hb_ lt_ lb_ : Int64} {a1 a2 a3 a4 a5 a6 a7 a8 a9 a11 a12 a18 a19 : Nat → Int32} {a10 a13 a14 a15 a16 a17 : Nat → Int64}
theorem am_addInequality {post : St2 → Prop} {n : Nat} {L : Nat → Nat → Int} {As R Q : Nat → Int} {one row : Nat} {sg : Int} (hone : one < 3) (hrow : row < 16) (hsg : sg = 1 ∨ sg = -1) (hA : am_s7 As) (hR : ∀ i, i < 3 → (R (row * 3 + i)).natAbs ≤ 7) (hQ : (Q row).natAbs ≤ 600)
    (hn : n < 512) (hb : ∀ j, j < n → ∀ c, c < 4 → am_B (L c j))
    (h : ∀ (n' : Nat) (L' : Nat → Nat → Int), n ≤ n' → n' ≤ n + 1 → (∀ j, j < n → ∀ c, L' c j = L c j) → (∀ j, n ≤ j → j < n' → ∃ q : Int, 0 < q ∧ ∀ c, c < 4 → am_iv As R Q one row sg c = q * L' c j) → am_hs n' L' (am_iv As R Q one row sg) → post (pr_, wo_, ro_, tu_, un_, co_, fw_, wc_, wt_, wb_, nI n', em_, hh_, ht_, hb_, hl_, lt_, lb_, br_, l3_, g3_, a1, a2, a3, a4, a5, a6, am_if As, am_if R, am_if Q, a10, a11, a12, a13, am_lf (L' 0), am_lf (L' 1), am_lf (L' 2), am_lf (L' 3), a18, a19)) :
    wpX_addInequality post (pr_, wo_, ro_, tu_, un_, co_, fw_, wc_, wt_, wb_, nI n, em_, hh_, ht_, hb_, hl_, lt_, lb_, br_, l3_, g3_, a1, a2, a3, a4, a5, a6, am_if As, am_if R, am_if Q, a10, a11, a12, a13, am_lf (L 0), am_lf (L 1), am_lf (L 2), am_lf (L 3), a18, a19) (nI one) (nI row) (am_I sg) := by
  have hj : (one + 1) % 3 < 3 := Nat.mod_lt _ (by omega)
  have hk : (one + 2) % 3 < 3 := Nat.mod_lt _ (by omega)
  have vr : ∀ i, i < 3 → (sg * R (row * 3 + i)).natAbs ≤ 7 := fun i hi => by
    have := hR i hi
    rcases hsg with e | e <;> rw [e] <;> omega
  have bb : ((if 0 < sg then Q row else 0 : Int)).natAbs ≤ 600 := by split <;> omega
  have rowv : ∀ i, i < 3 → (am_I sg * am_if R (nI row * 3 + nI i).toNatClampNeg).toInt64 = am_L (sg * R (row * 3 + i)) := fun i hi => by
    rw [pk_cl (row * 3 + i) (am_ix3 row i)]
    show (am_I sg * am_I (R (row * 3 + i))).toInt64 = _
    have := vr i hi
    rw [am_Imul, am_IL (by unfold am_V; omega)]
  have aV : ∀ i, i < 3 → am_V (As i) := fun i hi => by have := hA i hi; unfold am_V; omega
  unfold wpX_addInequality
  refine ⟨by decide, nm_r (e' := nI ((one + 1) % 3)) ?_ ⟨by decide, nm_r (e' := nI ((one + 2) % 3)) ?_ ⟨pk_in one 3 hone, nm_r (e' := am_I (As one)) ?_ ⟨pk_in (row * 3 + one) 48 (by omega) (am_ix3 row one), nm_r (rowv one hone) ⟨pk_in (row * 3 + (one + 1) % 3) 48 (by omega) (am_ix3 row _), nm_r (rowv _ hj) ⟨pk_in (row * 3 + (one + 2) % 3) 48 (by omega) (am_ix3 row _), nm_r (rowv _ hk) ?_⟩⟩⟩⟩⟩⟩
  · rw [nI_1 one]
    exact pk_rem (a := one + 1) (d := 3) (by omega) (by omega) (by omega)
  · rw [show nI one + 2 = nI (one + 2) from nI_add one 2]
    exact pk_rem (a := one + 2) (d := 3) (by omega) (by omega) (by omega)
  · rw [nI_clamp (by omega)]; rfl
  have main : wX_addInequality_84 post (nI ((one + 1) % 3)) (nI ((one + 2) % 3)) (am_I (As one)) (am_L (sg * R (row * 3 + one))) (am_L (sg * R (row * 3 + (one + 1) % 3))) (am_L (sg * R (row * 3 + (one + 2) % 3))) (am_L (if 0 < sg then Q row else 0)) pr_ wo_ ro_ tu_ un_ co_ fw_ wc_ wt_ wb_ (nI n) em_ hh_ ht_ hb_ hl_ lt_ lb_ br_ l3_ g3_ a1 a2 a3 a4 a5 a6 (am_if As) (am_if R) (am_if Q) a10 a11 a12 a13 (am_lf (L 0)) (am_lf (L 1)) (am_lf (L 2)) (am_lf (L 3)) a18 a19 := by
    have ivb : ∀ c, c < 4 → am_B (am_iv As R Q one row sg c) := am_ivb hA hone vr bb
    unfold wX_addInequality_84
    refine am_ieq (As one) 0 (aV one hone) (by unfold am_V; omega) (fun z => ?_) (fun z => ?_)
    · have e0 : am_iv As R Q one row sg 0 = sg * R (row * 3 + one) := by unfold am_iv; rw [if_pos z]; rfl
      have e1 : am_iv As R Q one row sg 1 = sg * R (row * 3 + (one + 1) % 3) := by unfold am_iv; rw [if_pos z]; rfl
      have e2 : am_iv As R Q one row sg 2 = sg * R (row * 3 + (one + 2) % 3) := by unfold am_iv; rw [if_pos z]; rfl
      have e3 : am_iv As R Q one row sg 3 = if 0 < sg then Q row else 0 := by unfold am_iv; rw [if_pos z]; rfl
      rw [← e0, ← e1, ← e2, ← e3]
      exact am_addLine hn hb ivb h
    · have e0 : am_iv As R Q one row sg 0 = am_side (As one) * (sg * R (row * 3 + one)) := by unfold am_iv; rw [if_neg z]; rfl
      have e1 : am_iv As R Q one row sg 1 = am_size (As one) * (sg * R (row * 3 + (one + 1) % 3)) - am_side (As one) * (sg * R (row * 3 + one)) * As ((one + 1) % 3) := by unfold am_iv; rw [if_neg z]; rfl
      have e2 : am_iv As R Q one row sg 2 = am_size (As one) * (sg * R (row * 3 + (one + 2) % 3)) - am_side (As one) * (sg * R (row * 3 + one)) * As ((one + 2) % 3) := by unfold am_iv; rw [if_neg z]; rfl
      have e3 : am_iv As R Q one row sg 3 = am_size (As one) * (if 0 < sg then Q row else 0) := by unfold am_iv; rw [if_neg z]; rfl
      have aj : ∀ i, i < 3 → (am_if As (nI i).toNatClampNeg).toInt64 = am_L (As i) := fun i hi => by
        rw [nI_clamp (by omega)]
        exact am_IL (aV i hi)
      have fin : ∀ sz sd : Int, sz = am_size (As one) → sd = am_side (As one) → wX_addInequality_133 post (nI ((one + 1) % 3)) (nI ((one + 2) % 3)) (am_L (sg * R (row * 3 + one))) (am_L (sg * R (row * 3 + (one + 1) % 3))) (am_L (sg * R (row * 3 + (one + 2) % 3))) (am_L (if 0 < sg then Q row else 0)) (am_L sz) (am_L sd) pr_ wo_ ro_ tu_ un_ co_ fw_ wc_ wt_ wb_ (nI n) em_ hh_ ht_ hb_ hl_ lt_ lb_ br_ l3_ g3_ a1 a2 a3 a4 a5 a6 (am_if As) (am_if R) (am_if Q) a10 a11 a12 a13 (am_lf (L 0)) (am_lf (L 1)) (am_lf (L 2)) (am_lf (L 3)) a18 a19 := by
        intro sz sd hz hd
        subst hz hd
        unfold wX_addInequality_133
        refine ⟨pk_in _ 3 hj, pk_in _ 3 hk, ?_⟩
        rw [aj _ hj, aj _ hk, am_Lmul, am_Lmul, am_Lmul, am_Lmul, am_Lmul, am_Lmul, am_Lsub, am_Lsub, ← e1, ← e2, ← e3, ← e0]
        exact am_addLine hn hb ivb h
      have a1 := hA one hone
      refine am_ile 0 (As one) (by unfold am_V; omega) (aV one hone) (fun z2 => ?_) (fun z2 => ?_)
      · unfold wX_addInequality_119
        rw [am_IL (aV one hone), show (1 : Int64) = am_L 1 from rfl, am_Lneg 1]
        refine br_t ((am_Ile (x := 0) (by unfold am_V; omega) (aV one hone)).mpr z2) (fin (As one) 1 ?_ ?_)
        · unfold am_size; rw [if_pos z2]
        · unfold am_side; rw [if_pos z2]
      · unfold wX_addInequality_119
        rw [am_Ineg, am_IL (by unfold am_V; omega), show (1 : Int64) = am_L 1 from rfl, am_Lneg 1]
        refine br_f (fun y => ?_) (fin (-(As one)) (-1) ?_ ?_)
        · have := (am_Ile (x := 0) (by unfold am_V; omega) (aV one hone)).mp y
          omega
        · unfold am_size; rw [if_neg (by omega)]
        · unfold am_side; rw [if_neg (by omega)]
  rcases hsg with e | e
  · subst e
    refine am_ile 1 0 (by unfold am_V; omega) (by unfold am_V; omega) (fun z => absurd z (by omega)) (fun _ => ⟨pk_in row 16 hrow, ?_⟩)
    have : (am_if Q (nI row).toNatClampNeg).toInt64 = am_L (if 0 < (1 : Int) then Q row else 0) := by
      rw [nI_clamp (by omega), if_pos (by omega)]
      exact am_IL (by unfold am_V; omega)
    rw [this]
    exact main
  · subst e
    exact am_ile (-1) 0 (by unfold am_V; omega) (by unfold am_V; omega) (fun _ => main) (fun z => absurd z (by omega))
/-- the amount that is replaced -/
theorem am_replaced {post : Int32 → Prop} {As : Nat → Int} (hA : am_s7 As) (h : ∀ one, one < 3 → (As one ≠ 0 ∨ (one = 0 ∧ ∀ i, i < 3 → As i = 0)) → post (nI one)) : wpX_replaced post (pr_, wo_, ro_, tu_, un_, co_, fw_, wc_, wt_, wb_, li_, em_, hh_, ht_, hb_, hl_, lt_, lb_, br_, l3_, g3_, a1, a2, a3, a4, a5, a6, am_if As, a8, a9, a10, a11, a12, a13, a14, a15, a16, a17, a18, a19) := by
  have aV : ∀ i, i < 3 → am_V (As i) := fun i hi => by have := hA i hi; unfold am_V; omega
  have v0 : am_V 0 := by unfold am_V; omega
  have fin : ∀ i, i < 3 → (∀ j, j < i → As j = 0) → (As i ≠ 0 ∨ i = 2) → wX_replaced_22 post (nI i) pr_ wo_ ro_ tu_ un_ co_ fw_ wc_ wt_ wb_ li_ em_ hh_ ht_ hb_ hl_ lt_ lb_ br_ l3_ g3_ a1 a2 a3 a4 a5 a6 (am_if As) a8 a9 a10 a11 a12 a13 a14 a15 a16 a17 a18 a19 := by
    intro i hi hz hc
    unfold wX_replaced_22
    refine ⟨pk_in i 3 hi, am_ieq (As i) 0 (aV i hi) v0 (fun z => h 0 (by omega) (Or.inr ⟨rfl, fun j hj => ?_⟩)) (fun z => h i hi (Or.inl z)) (by rw [nI_clamp (by omega)]; rfl)⟩
    by_cases e : j = i
    · rw [e]; exact z
    · exact hz j (by omega)
  unfold wpX_replaced
  refine pk_loop (σ := Unit) (fun n i _ => wX_replaced_2 post pr_ wo_ ro_ tu_ un_ co_ fw_ wc_ wt_ wb_ li_ em_ hh_ ht_ hb_ hl_ lt_ lb_ br_ l3_ g3_ a1 a2 a3 a4 a5 a6 (am_if As) a8 a9 a10 a11 a12 a13 a14 a15 a16 a17 a18 a19 n (nI i)) (fun i _ => ∀ j, j < i → As j = 0) 2 0 () (by omega) (fun _ z => absurd z (by omega)) ?_ ?_
  · intro n _ hz
    exact pk_le 2 2 (fun _ => fin 2 (by omega) hz (Or.inr rfl)) (fun z => absurd z (by omega))
  · intro n i _ hi hz hn
    refine pk_le 2 i (fun z => absurd z (by omega)) (fun _ => ⟨pk_in i 3 (by omega), am_ieq (As i) 0 (aV i (by omega)) v0 (fun z => nm_r (nI_1 i) (hn () (fun j hj => ?_))) (fun z => fin i (by omega) hz (Or.inl z)) (by rw [nI_clamp (by omega)]; rfl)⟩)
    by_cases e : j = i
    · rw [e]; exact z
    · exact hz j (by omega)
end
end
section
/-! the inequalities in the worth's place, one by one -/
theorem am_sdc (c : Int) : am_side c * c = am_size c := by unfold am_side am_size; split <;> omega
theorem am_szp {c : Int} (h : c ≠ 0) : 0 < am_size c := by unfold am_size; split <;> omega
theorem am_perm {f : Nat → Int} {one : Nat} (h : one < 3) : f 0 + f 1 + f 2 = f one + f ((one + 1) % 3) + f ((one + 2) % 3) := by
  have : one = 0 ∨ one = 1 ∨ one = 2 := by omega
  rcases this with e | e | e <;> subst e <;> simp <;> omega
section
variable {As R Q X : Nat → Int} {one row : Nat} {sg D : Int}
theorem am_ivN (h : As one ≠ 0) : am_iv As R Q one row sg 0 = am_side (As one) * (sg * R (row * 3 + one)) ∧ am_iv As R Q one row sg 1 = am_size (As one) * (sg * R (row * 3 + (one + 1) % 3)) - am_side (As one) * (sg * R (row * 3 + one)) * As ((one + 1) % 3) ∧
    am_iv As R Q one row sg 2 = am_size (As one) * (sg * R (row * 3 + (one + 2) % 3)) - am_side (As one) * (sg * R (row * 3 + one)) * As ((one + 2) % 3) ∧ am_iv As R Q one row sg 3 = am_size (As one) * (if 0 < sg then Q row else 0) := by
  unfold am_iv
  simp only [if_neg h]
  exact ⟨rfl, rfl, rfl, rfl⟩
theorem am_ivZ (h : As one = 0) : am_iv As R Q one row sg 0 = sg * R (row * 3 + one) ∧ am_iv As R Q one row sg 1 = sg * R (row * 3 + (one + 1) % 3) ∧ am_iv As R Q one row sg 2 = sg * R (row * 3 + (one + 2) % 3) ∧ am_iv As R Q one row sg 3 = if 0 < sg then Q row else 0 := by
  unfold am_iv
  simp only [if_pos h]
  exact ⟨rfl, rfl, rfl, rfl⟩
/-- the worth, or the amount itself when nothing counts -/
def am_wv (As : Nat → Int) (one : Nat) (X : Nat → Int) : Int := if As one = 0 then X one else am_d3 As X
theorem am_ivok (hone : one < 3) (h : sg * (R (row * 3 + 0) * X 0 + R (row * 3 + 1) * X 1 + R (row * 3 + 2) * X 2) ≤ (if 0 < sg then Q row else 0) * D) :
    am_iv As R Q one row sg 0 * am_wv As one X + am_iv As R Q one row sg 1 * X ((one + 1) % 3) + am_iv As R Q one row sg 2 * X ((one + 2) % 3) ≤ am_iv As R Q one row sg 3 * D := by
  have S : sg * (R (row * 3 + 0) * X 0 + R (row * 3 + 1) * X 1 + R (row * 3 + 2) * X 2) = sg * R (row * 3 + one) * X one + sg * R (row * 3 + (one + 1) % 3) * X ((one + 1) % 3) + sg * R (row * 3 + (one + 2) % 3) * X ((one + 2) % 3) := by
    have := am_perm (f := fun i => sg * R (row * 3 + i) * X i) hone
    rw [← this]; grind
  rw [S] at h
  unfold am_wv
  by_cases z : As one = 0
  · obtain ⟨e0, e1, e2, e3⟩ := am_ivZ (R := R) (Q := Q) (row := row) (sg := sg) z
    rw [if_pos z, e0, e1, e2, e3]
    exact h
  · obtain ⟨e0, e1, e2, e3⟩ := am_ivN (R := R) (Q := Q) (row := row) (sg := sg) z
    rw [if_neg z, e0, e1, e2, e3]
    have W : am_d3 As X = As one * X one + As ((one + 1) % 3) * X ((one + 1) % 3) + As ((one + 2) % 3) * X ((one + 2) % 3) := am_perm (f := fun i => As i * X i) hone
    have sc := am_sdc (As one)
    have sp := am_szp z
    have h2 := Int.mul_le_mul_of_nonneg_left h (show 0 ≤ am_size (As one) by omega)
    have e : am_side (As one) * (sg * R (row * 3 + one)) * am_d3 As X + (am_size (As one) * (sg * R (row * 3 + (one + 1) % 3)) - am_side (As one) * (sg * R (row * 3 + one)) * As ((one + 1) % 3)) * X ((one + 1) % 3) + (am_size (As one) * (sg * R (row * 3 + (one + 2) % 3)) - am_side (As one) * (sg * R (row * 3 + one)) * As ((one + 2) % 3)) * X ((one + 2) % 3) = am_size (As one) * (sg * R (row * 3 + one) * X one + sg * R (row * 3 + (one + 1) % 3) * X ((one + 1) % 3) + sg * R (row * 3 + (one + 2) % 3) * X ((one + 2) % 3)) := by
      rw [W, ← sc]; grind
    have e2 : am_size (As one) * (if 0 < sg then Q row else 0) * D = am_size (As one) * ((if 0 < sg then Q row else 0) * D) := by grind
    rw [e, e2]
    exact h2
/-- a condition's own numbers -/
theorem am_ivC {t : Int} (hone : one < 3) (h : ∀ i, i < 3 → R (row * 3 + i) = t * As i) : am_iv As R Q one row 1 0 = t * am_size (As one) ∧ am_iv As R Q one row 1 1 = (if As one = 0 then t * As ((one + 1) % 3) else 0) ∧ am_iv As R Q one row 1 2 = (if As one = 0 then t * As ((one + 2) % 3) else 0) ∧ am_iv As R Q one row 1 3 = (if As one = 0 then Q row else am_size (As one) * Q row) := by
  have hj : (one + 1) % 3 < 3 := Nat.mod_lt _ (by omega)
  have hk : (one + 2) % 3 < 3 := Nat.mod_lt _ (by omega)
  have sc := am_sdc (As one)
  by_cases z : As one = 0
  · obtain ⟨e0, e1, e2, e3⟩ := am_ivZ (R := R) (Q := Q) (row := row) (sg := 1) z
    rw [e0, e1, e2, e3, if_pos z, if_pos z, if_pos z, if_pos (by omega), h one hone, h _ hj, h _ hk]
    have s0 : am_size (As one) = 0 := by rw [z]; rfl
    rw [s0, z]
    refine ⟨by omega, by omega, by omega, rfl⟩
  · obtain ⟨e0, e1, e2, e3⟩ := am_ivN (R := R) (Q := Q) (row := row) (sg := 1) z
    rw [e0, e1, e2, e3, if_neg z, if_neg z, if_neg z, if_pos (by omega), h one hone, h _ hj, h _ hk, ← sc]
    refine ⟨by grind, by grind, by grind, rfl⟩
/-- the size by which an amount's own bound is written -/
def am_pp (c : Int) : Int := if c = 0 then 1 else am_size c
theorem am_ppp (c : Int) : 0 < am_pp c := by
  unfold am_pp
  by_cases h : c = 0
  · rw [if_pos h]; omega
  · rw [if_neg h]; exact am_szp h
/-- the two others' bounds -/
theorem am_ivJ {i : Nat} (hone : one < 3) (hi : i < 3) (hne : i ≠ one) (h : ∀ j, j < 3 → R (row * 3 + j) = if i = j then 1 else 0) (hQ : Q row = 20) (hs : sg = 1 ∨ sg = -1) :
    am_iv As R Q one row sg 0 = 0 ∧ am_iv As R Q one row sg 1 = (if i = (one + 1) % 3 then sg * am_pp (As one) else 0) ∧ am_iv As R Q one row sg 2 = (if i = (one + 2) % 3 then sg * am_pp (As one) else 0) ∧ am_iv As R Q one row sg 3 = (if 0 < sg then 20 * am_pp (As one) else 0) := by
  have hj : (one + 1) % 3 < 3 := Nat.mod_lt _ (by omega)
  have hk : (one + 2) % 3 < 3 := Nat.mod_lt _ (by omega)
  by_cases z : As one = 0
  · obtain ⟨e0, e1, e2, e3⟩ := am_ivZ (R := R) (Q := Q) (row := row) (sg := sg) z
    have p : am_pp (As one) = 1 := by unfold am_pp; rw [if_pos z]
    rw [e0, e1, e2, e3, h one hone, h _ hj, h _ hk, if_neg hne, p, hQ]
    refine ⟨by omega, ?_, ?_, ?_⟩ <;> split <;> omega
  · obtain ⟨e0, e1, e2, e3⟩ := am_ivN (R := R) (Q := Q) (row := row) (sg := sg) z
    have p : am_pp (As one) = am_size (As one) := by unfold am_pp; rw [if_neg z]
    rw [e0, e1, e2, e3, h one hone, h _ hj, h _ hk, if_neg hne, p, hQ]
    refine ⟨by grind, ?_, ?_, ?_⟩ <;> split <;> grind
/-- its own bound -/
theorem am_ivO (hone : one < 3) (h : ∀ j, j < 3 → R (row * 3 + j) = if one = j then 1 else 0) (hQ : Q row = 20) (z : As one ≠ 0) :
    am_iv As R Q one row sg 0 = sg * am_side (As one) ∧ am_iv As R Q one row sg 1 = -(sg * am_side (As one) * As ((one + 1) % 3)) ∧ am_iv As R Q one row sg 2 = -(sg * am_side (As one) * As ((one + 2) % 3)) ∧ am_iv As R Q one row sg 3 = (if 0 < sg then 20 * am_size (As one) else 0) := by
  have hj : (one + 1) % 3 < 3 := Nat.mod_lt _ (by omega)
  have hk : (one + 2) % 3 < 3 := Nat.mod_lt _ (by omega)
  obtain ⟨e0, e1, e2, e3⟩ := am_ivN (R := R) (Q := Q) (row := row) (sg := sg) z
  rw [e0, e1, e2, e3, h one hone, h _ hj, h _ hk, if_pos rfl, if_neg (by omega), if_neg (by omega), hQ]
  refine ⟨by grind, by grind, by grind, ?_⟩
  split <;> grind
theorem am_ivOz (hone : one < 3) (h : ∀ j, j < 3 → R (row * 3 + j) = if one = j then 1 else 0) (hQ : Q row = 20) (z : As one = 0) :
    am_iv As R Q one row sg 0 = sg ∧ am_iv As R Q one row sg 1 = 0 ∧ am_iv As R Q one row sg 2 = 0 ∧ am_iv As R Q one row sg 3 = (if 0 < sg then 20 else 0) := by
  have hj : (one + 1) % 3 < 3 := Nat.mod_lt _ (by omega)
  have hk : (one + 2) % 3 < 3 := Nat.mod_lt _ (by omega)
  obtain ⟨e0, e1, e2, e3⟩ := am_ivZ (R := R) (Q := Q) (row := row) (sg := sg) z
  rw [e0, e1, e2, e3, h one hone, h _ hj, h _ hk, if_pos rfl, if_neg (by omega), if_neg (by omega), hQ]
  exact ⟨by omega, by omega, by omega, rfl⟩
end
/-- small lines that hold at a point -/
def am_l0 (K C : Nat) (fs : Prop) (D W x y : Int) (v : Nat → Int) : Prop := (v 0).natAbs ≤ K ∧ (v 1).natAbs ≤ 7 ∧ (v 2).natAbs ≤ K ∧ (v 3).natAbs ≤ C ∧ (fs → v 0 * W + v 1 * x + v 2 * y ≤ v 3 * D)
theorem am_l0s {K C : Nat} {fs : Prop} {D W x y : Int} {v w : Nat → Int} {q : Int} (hq : 0 < q) (e : ∀ c, c < 4 → v c = q * w c) (h : am_l0 K C fs D W x y v) : am_l0 K C fs D W x y w := by
  obtain ⟨h0, h1, h2, h3, h4⟩ := h
  have nb : ∀ c k, c < 4 → (v c).natAbs ≤ k → (w c).natAbs ≤ k := by
    intro c k hc hk
    rw [e c hc, Int.natAbs_mul] at hk
    have : 1 * (w c).natAbs ≤ q.natAbs * (w c).natAbs := Nat.mul_le_mul_right _ (by omega)
    omega
  refine ⟨nb 0 K (by omega) h0, nb 1 7 (by omega) h1, nb 2 K (by omega) h2, nb 3 C (by omega) h3, fun hf => ?_⟩
  have := h4 hf
  rw [e 0 (by omega), e 1 (by omega), e 2 (by omega), e 3 (by omega)] at this
  refine Int.le_of_mul_le_mul_left (a := q) ?_ hq
  have e1 : q * (w 0 * W + w 1 * x + w 2 * y) = q * w 0 * W + q * w 1 * x + q * w 2 * y := by grind
  have e2 : q * (w 3 * D) = q * w 3 * D := by grind
  rw [e1, e2]; exact this
theorem am_l0c {L : Nat → Nat → Int} {fs : Prop} {D W x y : Int} {a b : Nat} (ha : am_l0 7 900 fs D W x y (fun c => L c a)) (hb : am_l0 7 900 fs D W x y (fun c => L c b)) (pa : 0 < L 1 a) (pb : L 1 b < 0) : am_l0 98 12600 fs D W x y (am_cb L 1 a b) := by
  obtain ⟨a0, a1, a2, a3, a4⟩ := ha
  obtain ⟨b0, b1, b2, b3, b4⟩ := hb
  have nb : (-(L 1 b)).natAbs ≤ 7 := by rw [Int.natAbs_neg]; exact b1
  have add : ∀ {x y : Int} {p q : Nat}, x.natAbs ≤ p → y.natAbs ≤ q → (x + y).natAbs ≤ p + q := fun hx hy => by omega
  refine ⟨add (am_bm a0 nb) (am_bm b0 a1), by rw [am_cb1]; decide, add (am_bm a2 nb) (am_bm b2 a1), add (am_bm a3 nb) (am_bm b3 a1), fun hf => ?_⟩
  have x1 := Int.mul_le_mul_of_nonneg_left (a4 hf) (show 0 ≤ -(L 1 b) by omega)
  have x2 := Int.mul_le_mul_of_nonneg_left (b4 hf) (show 0 ≤ L 1 a by omega)
  have e1 : am_cb L 1 a b 0 * W + am_cb L 1 a b 1 * x + am_cb L 1 a b 2 * y = -(L 1 b) * (L 0 a * W + L 1 a * x + L 2 a * y) + L 1 a * (L 0 b * W + L 1 b * x + L 2 b * y) := by unfold am_cb; grind
  have e2 : am_cb L 1 a b 3 * D = -(L 1 b) * (L 3 a * D) + L 1 a * (L 3 b * D) := by unfold am_cb; grind
  rw [e1, e2]
  exact Int.add_le_add x1 x2
/-- all that a line leads to -/
theorem am_thru {n n' : Nat} {L L' : Nat → Nat → Int} {v s : Nat → Int} {p : Int} (hp : 0 < p) (h : am_hs n L v) (ju : am_hs n L (fun c => if c = 1 then p else if c = 3 then 20 * p else 0)) (jd : am_hs n L (fun c => if c = 1 then -p else 0)) (ku : am_hs n L (fun c => if c = 2 then p else if c = 3 then 20 * p else 0)) (kd : am_hs n L (fun c => if c = 2 then -p else 0))
    (g1 : ∀ a, a < n → L 1 a = 0 → am_hs n' L' (fun c => L c a)) (g2 : ∀ a b, a < n → b < n → 0 < L 1 a → L 1 b < 0 → am_hs n' L' (am_cb L 1 a b))
    (f1 : ∀ a, a < n' → L' 2 a = 0 → am_ef (L' 0 a) (L' 3 a) s) (f2 : ∀ a b, a < n' → b < n' → 0 < L' 2 a → L' 2 b < 0 → am_ef (am_cb L' 2 a b 0) (am_cb L' 2 a b 3) s) : am_ef (v 0) (v 3 + 20 * am_ps (-(v 1)) + 20 * am_ps (-(v 2))) s := by
  have p0 : am_ps (-0) = 0 := rfl
  have t := am_elim1 hp h ju jd g1 g2
  have ku' : am_hs n' L' (fun c => if c = 2 then p else if c = 3 then 20 * p else 0) := by
    refine am_hsc (am_elim1 hp ku ju jd g1 g2) (fun c hc => ?_)
    have : c = 0 ∨ c = 1 ∨ c = 2 ∨ c = 3 := by omega
    rcases this with e | e | e | e <;> subst e <;> simp [am_tg, am_ps]
  have kd' : am_hs n' L' (fun c => if c = 2 then -p else 0) := by
    refine am_hsc (am_elim1 hp kd ju jd g1 g2) (fun c hc => ?_)
    have : c = 0 ∨ c = 1 ∨ c = 2 ∨ c = 3 := by omega
    rcases this with e | e | e | e <;> subst e <;> simp [am_tg, am_ps]
  exact am_elim2 hp t ku' kd' f1 f2
end
section
theorem am_exL (x : Int64) : ∃ z : Int, x = am_L z := ⟨x.toInt, (Int64.ofInt_toInt x).symm⟩
/-- all that a line leads to, as bounds of the worth -/
def am_ee (v s : Nat → Int) : Prop := am_ef (v 0) (v 3 + 20 * am_ps (-(v 1)) + 20 * am_ps (-(v 2))) s
section
variable {pr_ wo_ ro_ tu_ co_ fw_ wc_ li_ em_ hh_ hl_ br_ l3_ g3_ : Int32} {un_ wt_ wb_ ht_ hb_ lt_ lb_ : Int64} {a1 a2 a3 a4 a5 a6 a7 a8 a9 a11 a12 a18 a19 : Nat → Int32} {a10 a13 a14 a15 a16 a17 : Nat → Int64}
theorem am_tko {post : Int32 → St2 → Prop} {m one : Nat} {As R Q s0 : Nat → Int} {fs : Prop} {D W x y : Int} (hm : m ≤ 2) (hone : one < 3) (hA : am_s7 As) (hD : 0 < D) (hR : ∀ r i, r < m + 3 → i < 3 → (R (r * 3 + i)).natAbs ≤ 7) (hQ : ∀ r, r < m + 3 → (Q r).natAbs ≤ 600)
    (hbox : ∀ i j, i < 3 → j < 3 → R ((m + i) * 3 + j) = if i = j then 1 else 0) (hbQ : ∀ i, i < 3 → Q (m + i) = 20) (hsv : am_sv s0) (hsd : am_sd D W s0)
    (P1 : ∀ r, r < m + 3 → am_l0 7 900 fs D W x y (am_iv As R Q one r 1)) (P2 : ∀ i, i < 3 → am_l0 7 900 fs D W x y (am_iv As R Q one (m + i) (-1)))
    (h0 : ∀ (n : Nat) (L : Nat → Nat → Int) (s : Nat → Int), am_sv s → (∀ r, r < m + 3 → am_ee (am_iv As R Q one r 1) s) → (∀ i, i < 3 → am_ee (am_iv As R Q one (m + i) (-1)) s) → (fs → am_sd D W s) → (s 0 ≠ 0 ∨ (s 1 = 1 ∧ s 4 = 1 ∧ s 2 * s 6 < s 5 * s 3)) → post 0 (pr_, wo_, nI (m + 3), tu_, un_, co_, fw_, wc_, wt_, wb_, nI n, am_I (s 0), am_I (s 1), am_L (s 2), am_L (s 3), am_I (s 4), am_L (s 5), am_L (s 6), br_, l3_, g3_, a1, a2, a3, a4, a5, a6, am_if As, am_if R, am_if Q, a10, a11, a12, a13, am_lf (L 0), am_lf (L 1), am_lf (L 2), am_lf (L 3), a18, a19))
    (h1 : ∀ (n : Nat) (L : Nat → Nat → Int) (s : Nat → Int), am_sv s → (∀ r, r < m + 3 → am_ee (am_iv As R Q one r 1) s) → (∀ i, i < 3 → am_ee (am_iv As R Q one (m + i) (-1)) s) → (fs → am_sd D W s) → (s 0 = 0 ∧ (s 1 = 1 → s 4 = 1 → s 5 * s 3 ≤ s 2 * s 6)) → post 1 (pr_, wo_, nI (m + 3), tu_, un_, co_, fw_, wc_, am_L (if As one = 0 then 0 else s 2), am_L (if As one = 0 then 1 else s 3), nI n, am_I (s 0), am_I (s 1), am_L (s 2), am_L (s 3), am_I (s 4), am_L (s 5), am_L (s 6), br_, l3_, g3_, a1, a2, a3, a4, a5, a6, am_if As, am_if R, am_if Q, a10, a11, a12, a13, am_lf (L 0), am_lf (L 1), am_lf (L 2), am_lf (L 3), a18, a19))
    {L0 : Nat → Nat → Int} : ∃ f, wX_solveByTakingOut_36 post (nI one) f 0 pr_ wo_ (nI (m + 3)) tu_ un_ co_ fw_ wc_ wt_ wb_ (nI 0) (am_I (s0 0)) (am_I (s0 1)) (am_L (s0 2)) (am_L (s0 3)) (am_I (s0 4)) (am_L (s0 5)) (am_L (s0 6)) br_ l3_ g3_ a1 a2 a3 a4 a5 a6 (am_if As) (am_if R) (am_if Q) a10 a11 a12 a13 (am_lf (L0 0)) (am_lf (L0 1)) (am_lf (L0 2)) (am_lf (L0 3)) a18 a19 := by
  have aV : ∀ i, i < 3 → am_V (As i) := fun i hi => by have := hA i hi; unfold am_V; omega
  have v0 : am_V 0 := by unfold am_V; omega
  have pb : ∀ v, am_l0 7 900 fs D W x y v → ∀ c, c < 4 → am_B (v c) := by
    rintro v ⟨a0, a1, a2, a3, _⟩ c hc
    have : c = 0 ∨ c = 1 ∨ c = 2 ∨ c = 3 := by omega
    rcases this with e | e | e | e <;> subst e
    · exact am_nB a0 (by decide)
    · exact am_nB a1 (by decide)
    · exact am_nB a2 (by decide)
    · exact am_nB a3 (by decide)
  have pb1 : ∀ v, am_l0 98 12600 fs D W x y v → ∀ c, c < 4 → am_B (v c) := by
    rintro v ⟨a0, a1, a2, a3, _⟩ c hc
    have : c = 0 ∨ c = 1 ∨ c = 2 ∨ c = 3 := by omega
    rcases this with e | e | e | e <;> subst e
    · exact am_nB a0 (by decide)
    · exact am_nB a1 (by decide)
    · exact am_nB a2 (by decide)
    · exact am_nB a3 (by decide)
  have pw : ∀ v, am_l0 7 900 fs D W x y v → am_l0 98 12600 fs D W x y v := by
    rintro v ⟨a0, a1, a2, a3, a4⟩
    exact ⟨Nat.le_trans a0 (by decide), a1, Nat.le_trans a2 (by decide), Nat.le_trans a3 (by decide), a4⟩
  -- the state while inequalities are written
  have addI : ∀ (n : Nat) (L : Nat → Nat → Int) (n' : Nat) (L' : Nat → Nat → Int) (v : Nat → Int), (∀ j, j < n → am_l0 7 900 fs D W x y (fun c => L c j)) → am_l0 7 900 fs D W x y v → (∀ j, j < n → ∀ c, L' c j = L c j) → (∀ j, n ≤ j → j < n' → ∃ q : Int, 0 < q ∧ ∀ c, c < 4 → v c = q * L' c j) → ∀ j, j < n' → am_l0 7 900 fs D W x y (fun c => L' c j) := by
    intro n L n' L' v hl hv g3 g4 j hj
    by_cases e : j < n
    · have : (fun c => L' c j) = fun c => L c j := by funext c; exact g3 j e c
      rw [this]; exact hl j e
    · obtain ⟨q, hq, he⟩ := g4 j (by omega) hj
      exact am_l0s hq he hv
  refine pk_loop (fun f r (s : Nat × (Nat → Nat → Int)) => wX_solveByTakingOut_36 post (nI one) f (nI r) pr_ wo_ (nI (m + 3)) tu_ un_ co_ fw_ wc_ wt_ wb_ (nI s.1) (am_I (s0 0)) (am_I (s0 1)) (am_L (s0 2)) (am_L (s0 3)) (am_I (s0 4)) (am_L (s0 5)) (am_L (s0 6)) br_ l3_ g3_ a1 a2 a3 a4 a5 a6 (am_if As) (am_if R) (am_if Q) a10 a11 a12 a13 (am_lf (s.2 0)) (am_lf (s.2 1)) (am_lf (s.2 2)) (am_lf (s.2 3)) a18 a19) (fun r s => s.1 ≤ r ∧ (∀ j, j < s.1 → am_l0 7 900 fs D W x y (fun c => s.2 c j)) ∧ (∀ r', r' < r → am_hs s.1 s.2 (am_iv As R Q one r' 1))) (m + 3) 0 (0, L0) (by omega) ⟨by omega, fun _ z => absurd z (by simp), fun _ z => absurd z (by omega)⟩ ?_ ?_
  rotate_left
  · rintro f r ⟨n, L⟩ hr ⟨i1, i2, i3⟩ hw
    replace i1 : n ≤ r := i1
    replace i2 : ∀ j, j < n → am_l0 7 900 fs D W x y (fun c => L c j) := i2
    replace i3 : ∀ r', r' < r → am_hs n L (am_iv As R Q one r' 1) := i3
    refine pk_le (m + 3) r (fun z => absurd z (by omega)) (fun _ => ?_)
    refine am_addInequality (sg := 1) hone (by omega) (Or.inl rfl) hA (fun i hi => hR r i hr hi) (hQ r hr) (by omega) (fun j hj => pb _ (i2 j hj)) (fun n' L' g1 g2 g3 g4 g5 => nm_r (nI_1 r) (hw (n', L') ⟨by show n' ≤ r + 1; omega, addI n L n' L' _ i2 (P1 r hr) g3 g4, fun r' hr' => ?_⟩))
    by_cases e : r' = r
    · subst e; exact g5
    · exact am_hsm (i3 r' (by omega)) g1 g3
  rintro f ⟨n, L⟩ ⟨i1, i2, i3⟩
  replace i1 : n ≤ m + 3 := i1
  replace i2 : ∀ j, j < n → am_l0 7 900 fs D W x y (fun c => L c j) := i2
  replace i3 : ∀ r', r' < m + 3 → am_hs n L (am_iv As R Q one r' 1) := i3
  refine pk_le (m + 3) (m + 3) (fun _ => nm_r (e' := nI (m + 0)) ?_ ?_) (fun z => absurd z (by omega))
  · have := pk_sub (a := m + 3) (b := 3) (by omega)
    rw [show m + 3 - 3 = m + 0 by omega] at this
    exact this
  refine pk_loop (fun f i (s : Nat × (Nat → Nat → Int)) => wX_solveByTakingOut_64 post (nI one) f (nI (m + i)) pr_ wo_ (nI (m + 3)) tu_ un_ co_ fw_ wc_ wt_ wb_ (nI s.1) (am_I (s0 0)) (am_I (s0 1)) (am_L (s0 2)) (am_L (s0 3)) (am_I (s0 4)) (am_L (s0 5)) (am_L (s0 6)) br_ l3_ g3_ a1 a2 a3 a4 a5 a6 (am_if As) (am_if R) (am_if Q) a10 a11 a12 a13 (am_lf (s.2 0)) (am_lf (s.2 1)) (am_lf (s.2 2)) (am_lf (s.2 3)) a18 a19) (fun i s => s.1 ≤ m + 3 + i ∧ (∀ j, j < s.1 → am_l0 7 900 fs D W x y (fun c => s.2 c j)) ∧ (∀ r', r' < m + 3 → am_hs s.1 s.2 (am_iv As R Q one r' 1)) ∧ (∀ i', i' < i → am_hs s.1 s.2 (am_iv As R Q one (m + i') (-1)))) 3 0 (n, L) (by omega) ⟨by show n ≤ m + 3 + 0; omega, i2, i3, fun _ z => absurd z (by omega)⟩ ?_ ?_
  rotate_left
  · rintro f i ⟨n, L⟩ hi ⟨i1, i2, i3, i4⟩ hw
    replace i1 : n ≤ m + 3 + i := i1
    replace i2 : ∀ j, j < n → am_l0 7 900 fs D W x y (fun c => L c j) := i2
    replace i3 : ∀ r', r' < m + 3 → am_hs n L (am_iv As R Q one r' 1) := i3
    replace i4 : ∀ i', i' < i → am_hs n L (am_iv As R Q one (m + i') (-1)) := i4
    refine pk_le (m + 3) (m + i) (fun z => absurd z (by omega)) (fun _ => ?_)
    rw [show (-1 : Int32) = am_I (-1) from rfl]
    refine am_addInequality (sg := -1) hone (by omega) (Or.inr rfl) hA (fun j hj => hR (m + i) j (by omega) hj) (hQ (m + i) (by omega)) (by omega) (fun j hj => pb _ (i2 j hj)) (fun n' L' g1 g2 g3 g4 g5 => nm_r (nI_1 (m + i)) (hw (n', L') ⟨by show n' ≤ m + 3 + (i + 1); omega, addI n L n' L' _ i2 (P2 i hi) g3 g4, fun r' hr' => am_hsm (i3 r' hr') g1 g3, fun i' hi' => ?_⟩))
    by_cases e : i' = i
    · subst e; exact g5
    · exact am_hsm (i4 i' (by omega)) g1 g3
  rintro f ⟨n, L⟩ ⟨i1, i2, i3, i4⟩
  replace i1 : n ≤ m + 3 + 3 := i1
  replace i2 : ∀ j, j < n → am_l0 7 900 fs D W x y (fun c => L c j) := i2
  replace i3 : ∀ r', r' < m + 3 → am_hs n L (am_iv As R Q one r' 1) := i3
  replace i4 : ∀ i', i' < 3 → am_hs n L (am_iv As R Q one (m + i') (-1)) := i4
  refine pk_le (m + 3) (m + 3) (fun _ => ?_) (fun z => absurd z (by omega))
  -- the others' bounds
  have pp := am_ppp (As one)
  have hj3 : (one + 1) % 3 < 3 := Nat.mod_lt _ (by omega)
  have hk3 : (one + 2) % 3 < 3 := Nat.mod_lt _ (by omega)
  have jj := fun sg hs => am_ivJ (As := As) (R := R) (Q := Q) (row := m + (one + 1) % 3) (sg := sg) hone hj3 (by omega) (fun j hj => hbox _ j hj3 hj) (hbQ _ hj3) hs
  have kk := fun sg hs => am_ivJ (As := As) (R := R) (Q := Q) (row := m + (one + 2) % 3) (sg := sg) hone hk3 (by omega) (fun j hj => hbox _ j hk3 hj) (hbQ _ hk3) hs
  have ju : am_hs n L (fun c => if c = 1 then am_pp (As one) else if c = 3 then 20 * am_pp (As one) else 0) := by
    refine am_hsc (i3 (m + (one + 1) % 3) (by omega)) (fun c hc => ?_)
    obtain ⟨e0, e1, e2, e3⟩ := jj 1 (Or.inl rfl)
    have : c = 0 ∨ c = 1 ∨ c = 2 ∨ c = 3 := by omega
    rcases this with e | e | e | e <;> subst e
    · rw [e0]; rfl
    · rw [e1, if_pos rfl, if_pos rfl]; omega
    · rw [e2, if_neg (by omega)]; rfl
    · rw [e3, if_pos (by omega)]; rfl
  have jd : am_hs n L (fun c => if c = 1 then -(am_pp (As one)) else 0) := by
    refine am_hsc (i4 ((one + 1) % 3) hj3) (fun c hc => ?_)
    obtain ⟨e0, e1, e2, e3⟩ := jj (-1) (Or.inr rfl)
    have : c = 0 ∨ c = 1 ∨ c = 2 ∨ c = 3 := by omega
    rcases this with e | e | e | e <;> subst e
    · rw [e0]; rfl
    · rw [e1, if_pos rfl, if_pos rfl]; omega
    · rw [e2, if_neg (by omega)]; rfl
    · rw [e3, if_neg (by omega)]; rfl
  have ku : am_hs n L (fun c => if c = 2 then am_pp (As one) else if c = 3 then 20 * am_pp (As one) else 0) := by
    refine am_hsc (i3 (m + (one + 2) % 3) (by omega)) (fun c hc => ?_)
    obtain ⟨e0, e1, e2, e3⟩ := kk 1 (Or.inl rfl)
    have : c = 0 ∨ c = 1 ∨ c = 2 ∨ c = 3 := by omega
    rcases this with e | e | e | e <;> subst e
    · rw [e0]; rfl
    · rw [e1, if_neg (by omega)]; rfl
    · rw [e2, if_pos rfl, if_pos rfl]; omega
    · rw [e3, if_pos (by omega)]; rfl
  have kd : am_hs n L (fun c => if c = 2 then -(am_pp (As one)) else 0) := by
    refine am_hsc (i4 ((one + 2) % 3) hk3) (fun c hc => ?_)
    obtain ⟨e0, e1, e2, e3⟩ := kk (-1) (Or.inr rfl)
    have : c = 0 ∨ c = 1 ∨ c = 2 ∨ c = 3 := by omega
    rcases this with e | e | e | e <;> subst e
    · rw [e0]; rfl
    · rw [e1, if_neg (by omega)]; rfl
    · rw [e2, if_pos rfl, if_pos rfl]; omega
    · rw [e3, if_neg (by omega)]; rfl
  refine am_takeFirstOut (am_l0 7 900 fs D W x y) (am_l0 98 12600 fs D W x y) (by omega) i2 pb pb1 (fun v hv _ => pw v hv) (fun a b ha hb p q => am_l0c (i2 a ha) (i2 b hb) p q) (fun v w q hq he hv => am_l0s hq he hv) (fun n' L' g1 g2 g3 g4 => ?_)
  refine am_takeSecondOut (fs := fs) (D := D) (W := W) g1 hD hsv hsd (fun a ha => ⟨(g2 a ha).1.1, (g2 a ha).1.2.2.1, (g2 a ha).1.2.2.2.1⟩) (fun hf a ha z => ?_) (fun hf a b ha hb p q => ?_) (fun s k1 k2 k3 k4 => ?_)
  · have t := (g2 a ha).1.2.2.2.2 hf
    have t1 := (g2 a ha).2
    have t' : L' 0 a * W + L' 1 a * x + L' 2 a * y ≤ L' 3 a * D := t
    rw [t1, z] at t'
    omega
  · have t := (g2 a ha).1.2.2.2.2 hf
    have t1 := (g2 a ha).2
    have t' : L' 0 a * W + L' 1 a * x + L' 2 a * y ≤ L' 3 a * D := t
    have u := (g2 b hb).1.2.2.2.2 hf
    have u1 := (g2 b hb).2
    have u' : L' 0 b * W + L' 1 b * x + L' 2 b * y ≤ L' 3 b * D := u
    rw [t1] at t'
    rw [u1] at u'
    have x1 := Int.mul_le_mul_of_nonneg_left t' (show 0 ≤ -(L' 2 b) by omega)
    have x2 := Int.mul_le_mul_of_nonneg_left u' (show 0 ≤ L' 2 a by omega)
    have e1 : am_cb L' 2 a b 0 * W = -(L' 2 b) * (L' 0 a * W + 0 * x + L' 2 a * y) + L' 2 a * (L' 0 b * W + 0 * x + L' 2 b * y) := by unfold am_cb; grind
    have e2 : am_cb L' 2 a b 3 * D = -(L' 2 b) * (L' 3 a * D) + L' 2 a * (L' 3 b * D) := by unfold am_cb; grind
    rw [e1, e2]
    exact Int.add_le_add x1 x2
  have E1 : ∀ r, r < m + 3 → am_ee (am_iv As R Q one r 1) s := fun r hr => am_thru pp (i3 r hr) ju jd ku kd g3 g4 k2 k3
  have E2 : ∀ i, i < 3 → am_ee (am_iv As R Q one (m + i) (-1)) s := fun i hi => am_thru pp (i4 i hi) ju jd ku kd g3 g4 k2 k3
  have no := h0 n' L' s k1 E1 E2 k4
  have yes := h1 n' L' s k1 E1 E2 k4
  have done : (s 0 = 0 ∧ (s 1 = 1 → s 4 = 1 → s 5 * s 3 ≤ s 2 * s 6)) → wX_solveByTakingOut_138 post (nI one) pr_ wo_ (nI (m + 3)) tu_ un_ co_ fw_ wc_ wt_ wb_ (nI n') (am_I (s 0)) (am_I (s 1)) (am_L (s 2)) (am_L (s 3)) (am_I (s 4)) (am_L (s 5)) (am_L (s 6)) br_ l3_ g3_ a1 a2 a3 a4 a5 a6 (am_if As) (am_if R) (am_if Q) a10 a11 a12 a13 (am_lf (L' 0)) (am_lf (L' 1)) (am_lf (L' 2)) (am_lf (L' 3)) a18 a19 := by
    intro hc
    have y := yes hc
    unfold wX_solveByTakingOut_138 wX_solveByTakingOut_156
    have ea : am_if As (nI one).toNatClampNeg = am_I (As one) := by rw [nI_clamp (by omega)]; rfl
    rw [ea]
    refine ⟨pk_in one 3 hone, am_ieq (As one) 0 (aV one hone) v0 (fun z => ⟨pk_in one 3 hone, br_t ((am_Ieq (y := 0) (aV one hone) v0).mpr z) ?_⟩) (fun z => ⟨pk_in one 3 hone, br_f (fun q => z ((am_Ieq (y := 0) (aV one hone) v0).mp q)) ?_⟩)⟩
    · rw [if_pos z, if_pos z] at y
      exact y
    · rw [if_neg z, if_neg z] at y
      exact y
  obtain ⟨q0, q1, q4⟩ := k1
  refine am_ieq (s 0) 0 (by unfold am_V; omega) v0 (fun z0 => ?_) (fun z0 => no (Or.inl z0))
  refine am_ieq (s 1) 0 (by unfold am_V; omega) v0 (fun z1 => done ⟨z0, fun q => by omega⟩) (fun z1 => ?_)
  refine am_ieq (s 4) 0 (by unfold am_V; omega) v0 (fun z4 => done ⟨z0, fun _ q => by omega⟩) (fun z4 => ?_)
  rcases q1 with q1 | ⟨q1, q3, q3b, q2⟩
  · exact absurd q1 z1
  rcases q4 with q4 | ⟨q4, q6, q6b, q5⟩
  · exact absurd q4 z4
  have w1 := am_bm q5 (show (s 3).natAbs ≤ 20000 by omega)
  have w2 := am_bm q2 (show (s 6).natAbs ≤ 20000 by omega)
  rw [am_Lmul, am_Lmul]
  exact am_le (s 5 * s 3) (s 2 * s 6) (by unfold am_W; omega) (by unfold am_W; omega) (fun z => done ⟨z0, fun _ _ => z⟩) (fun z => no (Or.inr ⟨q1, q4, z⟩))
end
end
section
theorem am_lohi {s : Nat → Int} {A B : Int} (h3 : 0 < s 3) (h6 : 0 < s 6) (ha : s 2 ≤ A * s 3) (hb : B * s 6 ≤ s 5) (hAB : A < B) : s 2 * s 6 < s 5 * s 3 := by
  have x1 := Int.mul_le_mul_of_nonneg_right ha (show 0 ≤ s 6 by omega)
  have x2 := Int.mul_le_mul_of_nonneg_right hb (show 0 ≤ s 3 by omega)
  have p := Int.mul_pos h3 h6
  have x3 := Int.mul_lt_mul_of_pos_right hAB p
  have e1 : A * s 3 * s 6 = A * (s 3 * s 6) := by grind
  have e2 : B * s 6 * s 3 = B * (s 3 * s 6) := by grind
  omega
theorem am_ef1 {A : Int} {s : Nat → Int} (h : am_ef 1 A s) : s 1 = 1 ∧ s 2 ≤ A * s 3 := by
  obtain ⟨a, b⟩ := h.1 (by omega)
  exact ⟨a, by omega⟩
theorem am_efm {C : Int} {s : Nat → Int} (h : am_ef (-1) C s) : s 4 = 1 ∧ -C * s 6 ≤ s 5 := by
  obtain ⟨a, b⟩ := h.2.1 (by omega)
  exact ⟨a, by omega⟩
section
variable {m one : Nat} {As R Q g X s : Nat → Int} {b D : Int} {fs : Prop}
theorem am_nbm1 {t : Int} {x : Int} {k : Nat} (ht : t = 1 ∨ t = -1) (h : x.natAbs ≤ k) : (t * x).natAbs ≤ k := by
  rcases ht with e | e <;> rw [e] <;> omega
theorem am_P12 (hm : m ≤ 2) (hone : one < 3) (hA : am_s7 As) (hc : ∀ r, r < m → ∃ t : Int, (t = 1 ∨ t = -1) ∧ ∀ i, i < 3 → R (r * 3 + i) = t * As i) (hQ : ∀ r, r < m → (Q r).natAbs ≤ 128)
    (hbox : ∀ i j, i < 3 → j < 3 → R ((m + i) * 3 + j) = if i = j then 1 else 0) (hbQ : ∀ i, i < 3 → Q (m + i) = 20)
    (hX : fs → (∀ i, i < 3 → 0 ≤ X i ∧ X i ≤ 20 * D) ∧ ∀ r, r < m → R (r * 3 + 0) * X 0 + R (r * 3 + 1) * X 1 + R (r * 3 + 2) * X 2 ≤ Q r * D) :
    (∀ r, r < m + 3 → am_l0 7 900 fs D (am_wv As one X) (X ((one + 1) % 3)) (X ((one + 2) % 3)) (am_iv As R Q one r 1)) ∧ (∀ i, i < 3 → am_l0 7 900 fs D (am_wv As one X) (X ((one + 1) % 3)) (X ((one + 2) % 3)) (am_iv As R Q one (m + i) (-1))) := by
  have hj : (one + 1) % 3 < 3 := Nat.mod_lt _ (by omega)
  have hk : (one + 2) % 3 < 3 := Nat.mod_lt _ (by omega)
  have a1 := hA one hone
  have sz := am_szb a1
  have pp7 : (am_pp (As one)).natAbs ≤ 7 := by
    unfold am_pp
    split
    · decide
    · exact sz
  have row3 : ∀ i, i < 3 → R ((m + i) * 3 + 0) * X 0 + R ((m + i) * 3 + 1) * X 1 + R ((m + i) * 3 + 2) * X 2 = X i := by
    intro i hi
    rw [hbox i 0 hi (by omega), hbox i 1 hi (by omega), hbox i 2 hi (by omega)]
    have : i = 0 ∨ i = 1 ∨ i = 2 := by omega
    rcases this with e | e | e <;> subst e <;> simp
  have box : ∀ i, i < 3 → ∀ sg : Int, (sg = 1 ∨ sg = -1) → am_l0 7 900 fs D (am_wv As one X) (X ((one + 1) % 3)) (X ((one + 2) % 3)) (am_iv As R Q one (m + i) sg) := by
    intro i hi sg hs
    have ok : fs → am_iv As R Q one (m + i) sg 0 * am_wv As one X + am_iv As R Q one (m + i) sg 1 * X ((one + 1) % 3) + am_iv As R Q one (m + i) sg 2 * X ((one + 2) % 3) ≤ am_iv As R Q one (m + i) sg 3 * D := by
      intro hf
      refine am_ivok hone ?_
      rw [row3 i hi, hbQ i hi]
      obtain ⟨b1, b2⟩ := (hX hf).1 i hi
      rcases hs with e | e <;> rw [e]
      · rw [if_pos (by omega)]; omega
      · rw [if_neg (by omega)]; omega
    by_cases e : i = one
    · subst e
      by_cases z : As i = 0
      · obtain ⟨e0, e1, e2, e3⟩ := am_ivOz (As := As) (Q := Q) (sg := sg) hone (fun j hj => hbox i j hone hj) (hbQ i hone) z
        refine ⟨?_, ?_, ?_, ?_, ok⟩
        · rw [e0]; rcases hs with e | e <;> rw [e] <;> decide
        · rw [e1]; decide
        · rw [e2]; decide
        · rw [e3]; split <;> decide
      · obtain ⟨e0, e1, e2, e3⟩ := am_ivO (As := As) (Q := Q) (sg := sg) hone (fun j hj => hbox i j hone hj) (hbQ i hone) z
        have sd := am_nbm1 hs (am_sdb (As i))
        refine ⟨?_, ?_, ?_, ?_, ok⟩
        · rw [e0]; exact Nat.le_trans sd (by decide)
        · rw [e1, Int.natAbs_neg]; exact Nat.le_trans (am_bm sd (hA _ hj)) (by decide)
        · rw [e2, Int.natAbs_neg]; exact Nat.le_trans (am_bm sd (hA _ hk)) (by decide)
        · rw [e3]; split
          · exact Nat.le_trans (am_bm (show (20 : Int).natAbs ≤ 20 by decide) sz) (by decide)
          · decide
    · obtain ⟨e0, e1, e2, e3⟩ := am_ivJ (As := As) (Q := Q) (sg := sg) hone hi e (fun j hj => hbox i j hi hj) (hbQ i hi) hs
      have sp := am_nbm1 hs pp7
      refine ⟨?_, ?_, ?_, ?_, ok⟩
      · rw [e0]; decide
      · rw [e1]; split
        · exact sp
        · decide
      · rw [e2]; split
        · exact sp
        · decide
      · rw [e3]; split
        · exact Nat.le_trans (am_bm (show (20 : Int).natAbs ≤ 20 by decide) pp7) (by decide)
        · decide
  refine ⟨fun r hr => ?_, fun i hi => box i hi (-1) (Or.inr rfl)⟩
  by_cases e : r < m
  · obtain ⟨t, ht, hR⟩ := hc r e
    obtain ⟨e0, e1, e2, e3⟩ := am_ivC (Q := Q) hone hR
    have q := hQ r e
    refine ⟨?_, ?_, ?_, ?_, fun hf => ?_⟩
    · rw [e0]; exact am_nbm1 ht sz
    · rw [e1]; split
      · exact am_nbm1 ht (hA _ hj)
      · decide
    · rw [e2]; split
      · exact am_nbm1 ht (hA _ hk)
      · decide
    · rw [e3]; split
      · exact Nat.le_trans q (by decide)
      · exact Nat.le_trans (am_bm sz q) (by decide)
    · refine am_ivok hone ?_
      rw [if_pos (by omega), Int.one_mul]
      exact (hX hf).2 r e
  · have := box (r - m) (by omega) 1 (Or.inl rfl)
    rw [show m + (r - m) = r by omega] at this
    exact this
/-- the worth's own bounds -/
theorem am_own (hone : one < 3) (z : As one ≠ 0) (hbox : ∀ i j, i < 3 → j < 3 → R ((m + i) * 3 + j) = if i = j then 1 else 0) (hbQ : ∀ i, i < 3 → Q (m + i) = 20) (E1 : am_ee (am_iv As R Q one (m + one) 1) s) (E2 : am_ee (am_iv As R Q one (m + one) (-1)) s) :
    am_ef 1 (am_most As) s ∧ am_ef (-1) (-(am_least As)) s := by
  obtain ⟨e0, e1, e2, e3⟩ := am_ivO (As := As) (Q := Q) (sg := 1) hone (fun j hj => hbox one j hone hj) (hbQ one hone) z
  obtain ⟨f0, f1, f2, f3⟩ := am_ivO (As := As) (Q := Q) (sg := -1) hone (fun j hj => hbox one j hone hj) (hbQ one hone) z
  unfold am_ee at E1 E2
  rw [e0, e1, e2, e3, if_pos (by omega)] at E1
  rw [f0, f1, f2, f3, if_neg (by omega)] at E2
  have hmo : am_most As = 20 * (am_ps (As one) + am_ps (As ((one + 1) % 3)) + am_ps (As ((one + 2) % 3))) := by
    unfold am_most; rw [am_perm (f := fun i => am_ps (As i)) hone]
  have hle : am_least As = 20 * (am_ng (As one) + am_ng (As ((one + 1) % 3)) + am_ng (As ((one + 2) % 3))) := by
    unfold am_least; rw [am_perm (f := fun i => am_ng (As i)) hone]
  have pn : ∀ x : Int, am_ps (-x) = -(am_ng x) := fun x => am_pn
  rcases Int.lt_or_le (As one) 0 with y | y
  · have sd : am_side (As one) = -1 := by unfold am_side; rw [if_neg (by omega)]
    have sz : am_size (As one) = -(As one) := by unfold am_size; rw [if_neg (by omega)]
    have ng1 : am_ng (As one) = As one := by unfold am_ng; rw [if_pos y]
    have ps1 : am_ps (As one) = 0 := by unfold am_ps; rw [if_neg (by omega)]
    rw [sd, sz] at E1
    rw [sd] at E2
    constructor
    · have : am_most As = 0 + 20 * am_ps (-(-(-1 * -1 * As ((one + 1) % 3)))) + 20 * am_ps (-(-(-1 * -1 * As ((one + 2) % 3)))) := by
        rw [hmo, ps1]; simp; omega
      rw [this]; exact E2
    · have : -(am_least As) = 20 * -(As one) + 20 * am_ps (-(-(1 * -1 * As ((one + 1) % 3)))) + 20 * am_ps (-(-(1 * -1 * As ((one + 2) % 3)))) := by
        rw [hle, ng1]; simp [pn]; omega
      rw [this]; exact E1
  · have sd : am_side (As one) = 1 := by unfold am_side; rw [if_pos y]
    have sz : am_size (As one) = As one := by unfold am_size; rw [if_pos y]
    have ng1 : am_ng (As one) = 0 := by unfold am_ng; rw [if_neg (by omega)]
    have ps1 : am_ps (As one) = As one := by unfold am_ps; rw [if_pos (by omega)]
    rw [sd, sz] at E1
    rw [sd] at E2
    constructor
    · have : am_most As = 20 * As one + 20 * am_ps (-(-(1 * 1 * As ((one + 1) % 3)))) + 20 * am_ps (-(-(1 * 1 * As ((one + 2) % 3)))) := by
        rw [hmo, ps1]; simp; omega
      rw [this]; exact E1
    · have : -(am_least As) = 0 + 20 * am_ps (-(-(-1 * 1 * As ((one + 1) % 3)))) + 20 * am_ps (-(-(-1 * 1 * As ((one + 2) % 3)))) := by
        rw [hle, ng1]; simp [pn]; omega
      rw [this]; exact E2
/-- a condition's bound -/
theorem am_cnd {r : Nat} {t : Int} (hone : one < 3) (h : ∀ i, i < 3 → R (r * 3 + i) = t * As i) (E : am_ee (am_iv As R Q one r 1) s) : (As one ≠ 0 → am_ef t (Q r) s) ∧ ((∀ i, i < 3 → As i = 0) → Q r < 0 → s 0 = 1) := by
  obtain ⟨e0, e1, e2, e3⟩ := am_ivC (Q := Q) hone h
  unfold am_ee at E
  rw [e0, e1, e2, e3] at E
  have hj : (one + 1) % 3 < 3 := Nat.mod_lt _ (by omega)
  have hk : (one + 2) % 3 < 3 := Nat.mod_lt _ (by omega)
  have p0 : am_ps (-0) = 0 := rfl
  refine ⟨fun z => ?_, fun z hq => ?_⟩
  · rw [if_neg z, if_neg z, if_neg z, p0] at E
    exact am_efp (q := 1) (k := am_size (As one)) (by omega) (am_szp z) (by grind) (by omega) E
  · have z1 := z one hone
    rw [if_pos z1, if_pos z1, if_pos z1, z _ hj, z _ hk, z1] at E
    have s0 : am_size 0 = 0 := rfl
    rw [s0, Int.mul_zero] at E
    rw [p0] at E
    exact E.2.2 rfl (by omega)
/-- the point at a worth V -/
def am_pt (As : Nat → Int) (V : Int) (i : Nat) : Int := if 0 < As i then 20 * (V - am_least As) else if As i < 0 then 20 * (am_most As - V) else 0
theorem am_ptp {V : Int} (h1 : am_least As ≤ V) (h2 : V ≤ am_most As) : (∀ i, i < 3 → 0 ≤ am_pt As V i ∧ am_pt As V i ≤ 20 * (am_most As - am_least As)) ∧ am_d3 As (am_pt As V) = V * (am_most As - am_least As) := by
  refine ⟨fun i _ => ?_, ?_⟩
  · unfold am_pt
    split
    · omega
    · split <;> omega
  · have key : ∀ i, As i * am_pt As V i = 20 * am_ps (As i) * (V - am_least As) + 20 * am_ng (As i) * (am_most As - V) := by
      intro i
      unfold am_pt am_ps am_ng
      rcases Int.lt_trichotomy (As i) 0 with y | y | y
      · rw [if_neg (by omega), if_pos y, if_neg (by omega), if_pos y]; grind
      · rw [y]; simp
      · rw [if_pos y, if_pos y, if_neg (by omega)]; grind
    have e1 : am_most As = 20 * (am_ps (As 0) + am_ps (As 1) + am_ps (As 2)) := rfl
    have e2 : am_least As = 20 * (am_ng (As 0) + am_ng (As 1) + am_ng (As 2)) := rfl
    have e : am_d3 As (am_pt As V) = am_most As * (V - am_least As) + am_least As * (am_most As - V) := by
      unfold am_d3
      rw [key 0, key 1, key 2]
      generalize hM : V - am_least As = M
      generalize hN : am_most As - V = N
      rw [e1, e2]; grind
    rw [e]; grind
theorem am_psng (x : Int) : 0 ≤ am_ps x ∧ am_ng x ≤ 0 ∧ (x ≠ 0 → am_ng x < am_ps x) := by
  unfold am_ps am_ng
  by_cases h : 0 < x
  · rw [if_pos h, if_neg (by omega)]; omega
  · rw [if_neg h]
    by_cases h2 : x < 0
    · rw [if_pos h2]; omega
    · rw [if_neg h2]; omega
theorem am_ml0 : am_least As ≤ am_most As := by
  have a0 := am_psng (As 0)
  have a1 := am_psng (As 1)
  have a2 := am_psng (As 2)
  unfold am_least am_most; omega
theorem am_mlt (hone : one < 3) (z : As one ≠ 0) : am_least As < am_most As := by
  have a0 := am_psng (As one)
  have a1 := am_psng (As ((one + 1) % 3))
  have a2 := am_psng (As ((one + 2) % 3))
  have hmo : am_most As = 20 * (am_ps (As one) + am_ps (As ((one + 1) % 3)) + am_ps (As ((one + 2) % 3))) := by
    unfold am_most; rw [am_perm (f := fun i => am_ps (As i)) hone]
  have hle : am_least As = 20 * (am_ng (As one) + am_ng (As ((one + 1) % 3)) + am_ng (As ((one + 2) % 3))) := by
    unfold am_least; rw [am_perm (f := fun i => am_ng (As i)) hone]
  have := a0.2.2 z
  omega
/-- a worth that is due lies within -/
theorem am_dueV (hk : am_hk m g As) (hm : m ≤ 2) (hn : ¬ am_none m g b) : ∃ V, am_due m g b As V ∧ am_least As ≤ V ∧ V ≤ am_most As ∧ (1 ≤ m → (∀ j, j < 3 → g j = As j) → V ≤ b) ∧ (m = 2 → (∀ j, j < 3 → g j = As j) → b ≤ V) ∧ ((∀ j, j < 3 → g j = -(As j)) → 1 ≤ m → -V ≤ b) := by
  have ml := am_ml0 (As := As)
  have n1 : 1 ≤ m → am_least g ≤ b := fun h => by
    rcases Int.lt_or_le b (am_least g) with y | y
    · exact absurd (Or.inl ⟨h, y⟩) hn
    · exact y
  have n2 : m = 2 → b ≤ am_most g := fun h => by
    rcases Int.lt_or_le (am_most g) b with y | y
    · exact absurd (Or.inr ⟨h, y⟩) hn
    · exact y
  have zz : (∀ j, j < 3 → g j = As j) → (∀ j, j < 3 → g j = -(As j)) → am_most As = 0 ∧ am_least As = 0 := by
    intro h1 h2
    have z : ∀ j, j < 3 → As j = 0 := fun j hj => by have := h1 j hj; have := h2 j hj; omega
    unfold am_most am_least
    rw [z 0 (by omega), z 1 (by omega), z 2 (by omega)]
    exact ⟨rfl, rfl⟩
  rcases hk with z | ⟨m1, z⟩ | ⟨m1, z⟩
  · exact ⟨am_most As, Or.inl ⟨z, rfl⟩, ml, by omega, fun h => by omega, fun h => by omega, fun _ h => by omega⟩
  · have p := am_mp z
    have q1 := n1 m1
    refine ⟨_, Or.inr (Or.inl ⟨m1, z, rfl⟩), ?_, ?_, fun _ _ => ?_, fun h _ => ?_, fun h2 _ => ?_⟩
    · split <;> omega
    · split <;> omega
    · split <;> omega
    · have := n2 h
      split <;> omega
    · have := zz z h2
      split <;> omega
  · have q1 := n1 (by omega)
    have l := am_lm z
    refine ⟨am_most As, Or.inr (Or.inr ⟨m1, z, rfl⟩), ml, by omega, fun _ h2 => ?_, fun h => by omega, fun _ _ => by omega⟩
    have := zz h2 z
    omega
end
end
section
/-- what an engine answers, wider -/
def am_rs2 (m : Nat) (g : Nat → Int) (b : Int) (o : Nat → Int) (r : Int32) (x y : Int64) : Prop :=
  (r = 0 ∧ am_none m g b) ∨ (r = 1 ∧ ¬ am_none m g b ∧ ∃ u V, 0 < u ∧ u ≤ 20000 ∧ am_due m g b o V ∧ x = am_L (u * V) ∧ y = am_L u)
theorem am_res2 {m : Nat} {g : Nat → Int} {b : Int} {o : Nat → Int} {r : Int32} {x y : Int64} (h : am_res m g b o r x y) : am_rs2 m g b o r x y := by
  rcases h with h | ⟨h1, h2, u, V, h3, h4, h5⟩
  · exact Or.inl h
  · exact Or.inr ⟨h1, h2, u, V, h3, by omega, h5⟩
section
variable {m one : Nat} {As R Q g s : Nat → Int} {b D W : Int}
theorem am_fmT (hD : 0 < D) (hv : am_sv s) (h : am_sd D W s) : s 0 = 0 ∧ (s 1 = 1 → s 4 = 1 → s 5 * s 3 ≤ s 2 * s 6) := by
  obtain ⟨h0, h1, h4⟩ := h
  refine ⟨h0, fun e1 e4 => ?_⟩
  obtain ⟨_, v1, v4⟩ := hv
  have p3 : 0 < s 3 := by rcases v1 with y | ⟨_, y, _⟩ <;> omega
  have p6 : 0 < s 6 := by rcases v4 with y | ⟨_, y, _⟩ <;> omega
  have x1 := Int.mul_le_mul_of_nonneg_left (h1 e1) (show 0 ≤ s 6 by omega)
  have x2 := Int.mul_le_mul_of_nonneg_left (h4 e4) (show 0 ≤ s 3 by omega)
  refine Int.le_of_mul_le_mul_left (a := D) ?_ hD
  have e1 : D * (s 5 * s 3) = s 3 * (s 5 * D) := by grind
  have e2 : D * (s 2 * s 6) = s 6 * (s 2 * D) := by grind
  have e3 : s 3 * (W * s 6) = s 6 * (W * s 3) := by grind
  omega
/-- the rows of a condition, as what is asked -/
def am_rows (m : Nat) (g : Nat → Int) (b : Int) (R Q : Nat → Int) : Prop := (1 ≤ m → (∀ i, i < 3 → R (0 * 3 + i) = g i) ∧ Q 0 = b) ∧ (m = 2 → (∀ i, i < 3 → R (1 * 3 + i) = -(g i)) ∧ Q 1 = -b)
/-- no point: the bounds meet no more -/
theorem am_fmF (hm : m ≤ 2) (hone : one < 3) (hz : As one ≠ 0 ∨ ∀ i, i < 3 → As i = 0) (hk : am_hk m g As) (hr : am_rows m g b R Q) (hbox : ∀ i j, i < 3 → j < 3 → R ((m + i) * 3 + j) = if i = j then 1 else 0) (hbQ : ∀ i, i < 3 → Q (m + i) = 20)
    (hn : am_none m g b) (hv : am_sv s) (E1 : ∀ r, r < m + 3 → am_ee (am_iv As R Q one r 1) s) (E2 : ∀ i, i < 3 → am_ee (am_iv As R Q one (m + i) (-1)) s) : ¬ (s 0 = 0 ∧ (s 1 = 1 → s 4 = 1 → s 5 * s 3 ≤ s 2 * s 6)) := by
  rintro ⟨s0, sc⟩
  obtain ⟨_, v1, v4⟩ := hv
  have p3 : s 1 = 1 → 0 < s 3 := fun e => by rcases v1 with y | ⟨_, y, _⟩ <;> omega
  have p6 : s 4 = 1 → 0 < s 6 := fun e => by rcases v4 with y | ⟨_, y, _⟩ <;> omega
  have clash : ∀ A B : Int, A < B → s 1 = 1 ∧ s 2 ≤ A * s 3 → s 4 = 1 ∧ B * s 6 ≤ s 5 → False := by
    intro A B hAB ⟨a1, a2⟩ ⟨b1, b2⟩
    have := am_lohi (p3 a1) (p6 b1) a2 b2 hAB
    have := sc a1 b1
    omega
  have m1 : 1 ≤ m := by rcases hn with ⟨y, _⟩ | ⟨y, _⟩ <;> omega
  obtain ⟨r0, q0⟩ := hr.1 m1
  have pz : As one ≠ 0 → (s 1 = 1 ∧ s 2 ≤ am_most As * s 3) ∧ (s 4 = 1 ∧ am_least As * s 6 ≤ s 5) := fun z => by
    obtain ⟨o1, o2⟩ := am_own hone z hbox hbQ (E1 (m + one) (by omega)) (E2 one hone)
    refine ⟨am_ef1 o1, ?_⟩
    have := am_efm o2
    rw [Int.neg_neg] at this
    exact this
  rcases hk with y | ⟨_, y⟩ | ⟨y1, y⟩
  · omega
  · have t0 : ∀ i, i < 3 → R (0 * 3 + i) = 1 * As i := fun i hi => by rw [r0 i hi, y i hi]; omega
    obtain ⟨c1, c2⟩ := am_cnd hone t0 (E1 0 (by omega))
    rw [q0] at c1 c2
    have mp := am_mp y
    rcases hn with ⟨_, hb⟩ | ⟨m2, hb⟩
    · rcases hz with z | z
      · exact clash b (am_least As) (by omega) (am_ef1 (c1 z)) (pz z).2
      · have : am_least As = 0 := by unfold am_least; rw [z 0 (by omega), z 1 (by omega), z 2 (by omega)]; rfl
        have := c2 z (by omega)
        omega
    · obtain ⟨r1, q1⟩ := hr.2 m2
      have t1 : ∀ i, i < 3 → R (1 * 3 + i) = -1 * As i := fun i hi => by rw [r1 i hi, y i hi]; omega
      obtain ⟨d1, d2⟩ := am_cnd hone t1 (E1 1 (by omega))
      rw [q1] at d1 d2
      rcases hz with z | z
      · have e := am_efm (d1 z)
        rw [Int.neg_neg] at e
        exact clash (am_most As) b (by omega) (pz z).1 e
      · have : am_most As = 0 := by unfold am_most; rw [z 0 (by omega), z 1 (by omega), z 2 (by omega)]; rfl
        have := d2 z (by omega)
        omega
  · have t0 : ∀ i, i < 3 → R (0 * 3 + i) = -1 * As i := fun i hi => by rw [r0 i hi, y i hi]; omega
    obtain ⟨c1, c2⟩ := am_cnd hone t0 (E1 0 (by omega))
    rw [q0] at c1 c2
    have l := am_lm y
    rcases hn with ⟨_, hb⟩ | ⟨m2, hb⟩
    · rcases hz with z | z
      · exact clash (am_most As) (-b) (by omega) (pz z).1 (am_efm (c1 z))
      · have : am_most As = 0 := by unfold am_most; rw [z 0 (by omega), z 1 (by omega), z 2 (by omega)]; rfl
        have := c2 z (by omega)
        omega
    · omega
/-- a point: the worth is due -/
theorem am_fmV {V : Int} (hm : m ≤ 2) (hone : one < 3) (z : As one ≠ 0) (hr : am_rows m g b R Q) (hbox : ∀ i j, i < 3 → j < 3 → R ((m + i) * 3 + j) = if i = j then 1 else 0) (hbQ : ∀ i, i < 3 → Q (m + i) = 20)
    (hV : am_due m g b As V) (hv : am_sv s) (E1 : ∀ r, r < m + 3 → am_ee (am_iv As R Q one r 1) s) (E2 : ∀ i, i < 3 → am_ee (am_iv As R Q one (m + i) (-1)) s) (hD : 0 < D) (hd : am_sd D (V * D) s) : 0 < s 3 ∧ s 3 ≤ 20000 ∧ s 2 = s 3 * V := by
  obtain ⟨o1, o2⟩ := am_own hone z hbox hbQ (E1 (m + one) (by omega)) (E2 one hone)
  obtain ⟨a1, a2⟩ := am_ef1 o1
  obtain ⟨_, v1, _⟩ := hv
  have p3 : 0 < s 3 ∧ s 3 ≤ 20000 := by rcases v1 with y | ⟨_, y, y2, _⟩ <;> omega
  refine ⟨p3.1, p3.2, ?_⟩
  have lo : V * s 3 ≤ s 2 := by
    have := hd.2.1 a1
    refine Int.le_of_mul_le_mul_left (a := D) ?_ hD
    have e1 : D * (V * s 3) = V * D * s 3 := by grind
    have e2 : D * s 2 = s 2 * D := Int.mul_comm _ _
    omega
  have hi : s 2 ≤ V * s 3 := by
    rcases hV with ⟨_, e⟩ | ⟨m1, y, e⟩ | ⟨_, _, e⟩
    · rw [e]; exact a2
    · obtain ⟨r0, q0⟩ := hr.1 m1
      have t0 : ∀ i, i < 3 → R (0 * 3 + i) = 1 * As i := fun i hi => by rw [r0 i hi, y i hi]; omega
      have c1 := (am_cnd hone t0 (E1 0 (by omega))).1 z
      rw [q0] at c1
      have := (am_ef1 c1).2
      by_cases c : b < am_most As
      · rw [if_pos c] at e; rw [e]; exact this
      · rw [if_neg c] at e; rw [e]; exact a2
    · rw [e]; exact a2
  have : s 3 * V = V * s 3 := Int.mul_comm _ _
  omega
end
section
variable {pr_ wo_ ro_ tu_ co_ fw_ wc_ li_ em_ hh_ hl_ br_ l3_ g3_ : Int32} {un_ wt_ wb_ ht_ hb_ lt_ lb_ : Int64} {a1 a2 a3 a4 a5 a6 a7 a8 a9 a11 a12 a18 a19 : Nat → Int32} {a10 a13 a14 a15 a16 a17 : Nat → Int64}
theorem am_solveByTakingOut {post : Int32 → St2 → Prop} {P : Nat} {w : Int} {N Kd Bd lo hv As R Q : Nat → Int} {L : Nat → Nat → Int} {inc : Bool} (hP : P < 2) (hw : w = 0 ∨ w = -1) (hinc : inc = true ↔ (P = 1 ∧ w = -1)) (hkd : Kd 0 = 0 ∨ Kd 0 = 1 ∨ Kd 0 = 2)
    (hN : am_s7 N) (hB : (Bd 0).natAbs ≤ 128) (hlo : ∀ i, i < 3 → lo i = 0) (hhv : ∀ i, i < 3 → hv i = 20) (hAs : am_s7 As) (hk : am_hk (am_mk inc (Kd 0)) (am_cg (Kd 0) N) As)
    (h : ∀ r x y (rows t n : Nat) (R Q : Nat → Int) (em hh hl : Int32) (ht hb lt lb : Int64) (L : Nat → Nat → Int), am_rs2 (am_mk inc (Kd 0)) (am_cg (Kd 0) N) (am_sgn (Kd 0) 0 * Bd 0) As r x y → post r (nI P, am_I w, nI rows, nI t, un_, co_, fw_, wc_, x, y, nI n, em, hh, ht, hb, hl, lt, lb, br_, l3_, g3_, am_if N, am_if Kd, am_if Bd, a4, am_if lo, am_if hv, am_if As, am_if R, am_if Q, a10, a11, a12, a13, am_lf (L 0), am_lf (L 1), am_lf (L 2), am_lf (L 3), a18, a19)) :
    wpX_solveByTakingOut post (nI P, am_I w, ro_, tu_, un_, co_, fw_, wc_, wt_, wb_, li_, em_, hh_, ht_, hb_, hl_, lt_, lb_, br_, l3_, g3_, am_if N, am_if Kd, am_if Bd, a4, am_if lo, am_if hv, am_if As, am_if R, am_if Q, a10, a11, a12, a13, am_lf (L 0), am_lf (L 1), am_lf (L 2), am_lf (L 3), a18, a19) := by
  obtain ⟨x2, e2⟩ := am_exL ht_
  obtain ⟨x3, e3⟩ := am_exL hb_
  obtain ⟨x5, e5⟩ := am_exL lt_
  obtain ⟨x6, e6⟩ := am_exL lb_
  subst e2 e3 e5 e6
  unfold wpX_solveByTakingOut
  have m2 : am_mk inc (Kd 0) ≤ 2 := by unfold am_mk; split <;> (try split) <;> omega
  have hlh : ∀ i, i < 3 → hv i - lo i = 20 := fun i hi => by rw [hlo i hi, hhv i hi]; rfl
  refine am_writeRows (t := 0) hP (by omega) hw hinc hkd (fun R' Q' r1 r2 r3 r4 => ?_)
  obtain ⟨f1, f2⟩ := am_R2F hkd hlh r1 r2 r3 r4
  have eg : am_sw 0 (fun i => am_sgn (Kd 0) 0 * N i) = am_cg (Kd 0) N := by funext i; exact am_sw0 _ i
  have eb : am_bd 0 lo hv (fun i => am_sgn (Kd 0) 0 * N i) (am_sgn (Kd 0) 0 * Bd 0) 3 = am_sgn (Kd 0) 0 * Bd 0 := am_bd0 hlo
  rw [eg, eb] at f1 f2
  have hbq : ∀ i, i < 3 → Q' (am_mk inc (Kd 0) + i) = 20 := fun i hi => by rw [r4 i hi]; exact hlh i hi
  have hb : (am_sgn (Kd 0) 0 * Bd 0).natAbs ≤ 128 := by
    rcases am_sgn1 (Kd 0) 0 with e | e <;> rw [e] <;> omega
  clear r1 r2 r4
  generalize am_sgn (Kd 0) 0 * Bd 0 = b at f1 f2 hb h
  generalize am_mk inc (Kd 0) = m at f1 f2 m2 hk h r3 hbq
  have hg := am_cg7 (kd := Kd 0) hN
  generalize am_cg (Kd 0) N = g at f1 f2 hk h hg
  have hrow : am_rows m g b R' Q' := by
    refine ⟨fun m1 => ⟨fun i hi => ?_, ?_⟩, fun m2 => ⟨fun i hi => ?_, ?_⟩⟩
    · rw [f1 0 i (by omega) hi]
      unfold am_F
      rw [if_neg (by omega), if_pos (by omega), if_pos hi, if_pos rfl]; omega
    · rw [f2 0 (by omega)]; exact (am_Ft m1 g b g).2
    · rw [f1 1 i (by omega) hi]
      unfold am_F
      rw [if_neg (by omega), if_pos (by omega), if_pos hi, if_neg (by omega)]
    · subst m2
      rw [f2 1 (by omega)]; exact (am_Fu g b g).2
  have hc : ∀ r, r < m → ∃ t : Int, (t = 1 ∨ t = -1) ∧ ∀ i, i < 3 → R' (r * 3 + i) = t * As i := by
    intro r hr
    by_cases e : r = 0
    · subst e
      obtain ⟨q, _⟩ := hrow.1 (by omega)
      rcases hk with y | ⟨_, y⟩ | ⟨_, y⟩
      · omega
      · exact ⟨1, Or.inl rfl, fun i hi => by rw [q i hi, y i hi]; omega⟩
      · exact ⟨-1, Or.inr rfl, fun i hi => by rw [q i hi, y i hi]; omega⟩
    · have e1 : r = 1 := by omega
      subst e1
      obtain ⟨q, _⟩ := hrow.2 (by omega)
      rcases hk with y | ⟨_, y⟩ | ⟨y1, _⟩
      · omega
      · exact ⟨-1, Or.inr rfl, fun i hi => by rw [q i hi, y i hi]; omega⟩
      · omega
  have hQ : ∀ r, r < m → (Q' r).natAbs ≤ 128 := by
    intro r hr
    by_cases e : r = 0
    · subst e; rw [(hrow.1 (by omega)).2]; exact hb
    · have e1 : r = 1 := by omega
      subst e1; rw [(hrow.2 (by omega)).2, Int.natAbs_neg]; exact hb
  have hR7 : ∀ r i, r < m + 3 → i < 3 → (R' (r * 3 + i)).natAbs ≤ 7 := by
    intro r i hr hi
    rw [f1 r i hr hi, Int.natAbs_neg]
    exact (am_Fsm hg (show b.natAbs ≤ 600 by omega) (3 + r)).1 i hi
  have hQ6 : ∀ r, r < m + 3 → (Q' r).natAbs ≤ 600 := by
    intro r hr
    rw [f2 r hr]
    exact (am_Fsm hg (show b.natAbs ≤ 600 by omega) (3 + r)).2
  refine am_replaced hAs (fun one hone hz => ?_)
  have hz' : As one ≠ 0 ∨ ∀ i, i < 3 → As i = 0 := by
    rcases hz with y | ⟨_, y⟩
    · exact Or.inl y
    · exact Or.inr y
  have sv0 : am_sv (fun c => if c = 2 then x2 else if c = 3 then x3 else if c = 5 then x5 else if c = 6 then x6 else 0) := ⟨Or.inl rfl, Or.inl rfl, Or.inl rfl⟩
  have sd0 : ∀ D W, am_sd D W (fun c => if c = 2 then x2 else if c = 3 then x3 else if c = 5 then x5 else if c = 6 then x6 else 0) := fun D W => ⟨rfl, fun z => absurd z (show ¬ (0 : Int) = 1 by decide), fun z => absurd z (show ¬ (0 : Int) = 1 by decide)⟩
  by_cases none : am_none m g b
  · obtain ⟨P1, P2⟩ := am_P12 (As := As) (R := R') (Q := Q') (X := fun _ => 0) (D := 1) (fs := False) m2 hone hAs hc hQ r3 hbq (fun f => f.elim)
    exact am_tko (s0 := fun c => if c = 2 then x2 else if c = 3 then x3 else if c = 5 then x5 else if c = 6 then x6 else 0) (L0 := L) m2 hone hAs (by omega) hR7 hQ6 r3 hbq sv0 (sd0 _ _) P1 P2 (fun n L s k1 k2 k3 k4 k5 => h 0 wt_ wb_ _ _ _ _ _ _ _ _ _ _ _ _ _ (Or.inl ⟨rfl, none⟩)) (fun n L s k1 k2 k3 k4 k5 => absurd k5 (am_fmF m2 hone hz' hk hrow r3 hbq none k1 k2 k3))
  · obtain ⟨V, hV, v1, v2, v3, v4, v5⟩ := am_dueV hk m2 none
    have fin : ∀ (X : Nat → Int) (D : Int), 0 < D → (∀ i, i < 3 → 0 ≤ X i ∧ X i ≤ 20 * D) → am_d3 As X = V * D → am_wv As one X = V * D → ∃ f, wX_solveByTakingOut_36 post (nI one) f 0 (nI P) (am_I w) (nI (m + 3)) (nI 0) un_ co_ fw_ wc_ wt_ wb_ (nI 0) 0 0 (am_L x2) (am_L x3) 0 (am_L x5) (am_L x6) br_ l3_ g3_ (am_if N) (am_if Kd) (am_if Bd) a4 (am_if lo) (am_if hv) (am_if As) (am_if R') (am_if Q') a10 a11 a12 a13 (am_lf (L 0)) (am_lf (L 1)) (am_lf (L 2)) (am_lf (L 3)) a18 a19 := by
      intro X D hD hX hdX hW
      have sum : ∀ r, R' (r * 3 + 0) * X 0 + R' (r * 3 + 1) * X 1 + R' (r * 3 + 2) * X 2 = am_d3 (fun i => R' (r * 3 + i)) X := fun r => rfl
      obtain ⟨P1, P2⟩ := am_P12 (As := As) (R := R') (Q := Q') (X := X) (D := D) (fs := True) m2 hone hAs hc hQ r3 hbq (fun _ => ⟨hX, fun r hr => by
        rw [sum r]
        by_cases e : r = 0
        · subst e
          obtain ⟨q, qb⟩ := hrow.1 (by omega)
          rw [qb, am_d3p (g := fun i => R' (0 * 3 + i)) (o := g) q]
          rcases hk with y | ⟨m1, y⟩ | ⟨m1, y⟩
          · omega
          · rw [am_d3p y, hdX]
            exact Int.mul_le_mul_of_nonneg_right (v3 m1 y) (by omega)
          · rw [am_d3n y, hdX]
            have := Int.mul_le_mul_of_nonneg_right (v5 y (by omega)) (show 0 ≤ D by omega)
            have e : -V * D = -(V * D) := by grind
            omega
        · have e1 : r = 1 := by omega
          subst e1
          have mm : m = 2 := by omega
          obtain ⟨q, qb⟩ := hrow.2 mm
          rw [qb, am_d3n (g := fun i => R' (1 * 3 + i)) (o := g) q]
          rcases hk with y | ⟨m1, y⟩ | ⟨m1, y⟩
          · omega
          · rw [am_d3p y, hdX]
            have := Int.mul_le_mul_of_nonneg_right (v4 mm y) (show 0 ≤ D by omega)
            have e : -b * D = -(b * D) := by grind
            omega
          · omega⟩)
      rw [hW] at P1 P2
      refine am_tko (s0 := fun c => if c = 2 then x2 else if c = 3 then x3 else if c = 5 then x5 else if c = 6 then x6 else 0) (L0 := L) m2 hone hAs hD hR7 hQ6 r3 hbq sv0 (sd0 _ _) P1 P2 (fun n L s k1 k2 k3 k4 k5 => ?_) (fun n L s k1 k2 k3 k4 k5 => h 1 _ _ _ _ _ _ _ _ _ _ _ _ _ _ _ (Or.inr ⟨rfl, none, ?_⟩))
      · exfalso
        obtain ⟨c0, c1⟩ := am_fmT hD k1 (k4 trivial)
        rcases k5 with y | ⟨y1, y2, y3⟩
        · exact y c0
        · have := c1 y1 y2
          omega
      · by_cases z : As one = 0
        · rw [if_pos z, if_pos z]
          have all : ∀ i, i < 3 → As i = 0 := by
            rcases hz' with y | y
            · exact absurd z y
            · exact y
          have mo : am_most As = 0 := by unfold am_most; rw [all 0 (by omega), all 1 (by omega), all 2 (by omega)]; rfl
          have le : am_least As = 0 := by unfold am_least; rw [all 0 (by omega), all 1 (by omega), all 2 (by omega)]; rfl
          refine ⟨1, V, by omega, by omega, hV, ?_, rfl⟩
          rw [show (1 : Int) * V = 0 by omega]
        · rw [if_neg z, if_neg z]
          obtain ⟨p1, p2, p3⟩ := am_fmV m2 hone z hrow r3 hbq hV k1 k2 k3 hD (k4 trivial)
          exact ⟨s 3, V, p1, p2, hV, by rw [p3], rfl⟩
    by_cases z : As one = 0
    · have all : ∀ i, i < 3 → As i = 0 := by
        rcases hz' with y | y
        · exact absurd z y
        · exact y
      have mo : am_most As = 0 := by unfold am_most; rw [all 0 (by omega), all 1 (by omega), all 2 (by omega)]; rfl
      have le : am_least As = 0 := by unfold am_least; rw [all 0 (by omega), all 1 (by omega), all 2 (by omega)]; rfl
      refine fin (fun _ => 0) 1 (by omega) (fun i _ => ⟨by show (0 : Int) ≤ 0; omega, by show (0 : Int) ≤ 20 * 1; omega⟩) ?_ ?_
      · simp [am_d3]; omega
      · unfold am_wv; rw [if_pos z]; show (0 : Int) = V * 1; omega
    · have lt := am_mlt hone z
      obtain ⟨p1, p2⟩ := am_ptp v1 v2
      refine fin (am_pt As V) (am_most As - am_least As) (by omega) p1 p2 ?_
      unfold am_wv; rw [if_neg z]; exact p2
end
end
section
section
variable {pr_ wo_ ro_ tu_ co_ fw_ wc_ li_ em_ hh_ hl_ br_ l3_ g3_ : Int32} {un_ wt_ wb_ ht_ hb_ lt_ lb_ : Int64} {a1 a2 a3 a4 a5 a6 a7 a8 a9 a11 a12 a18 a19 : Nat → Int32} {a10 a13 a14 a15 a16 a17 : Nat → Int64}
theorem am_askWhole {post : St2 → Prop} {lo0 hv0 : Nat → Int} (h : ∀ lo hv, (∀ i, i < 3 → lo i = 0) → (∀ i, i < 3 → hv i = 20) → post (pr_, am_I (-1), ro_, tu_, un_, co_, fw_, wc_, wt_, wb_, li_, em_, hh_, ht_, hb_, hl_, lt_, lb_, br_, l3_, g3_, a1, a2, a3, a4, am_if lo, am_if hv, a7, a8, a9, a10, a11, a12, a13, a14, a15, a16, a17, a18, a19)) : wpX_askWhole post (pr_, wo_, ro_, tu_, un_, co_, fw_, wc_, wt_, wb_, li_, em_, hh_, ht_, hb_, hl_, lt_, lb_, br_, l3_, g3_, a1, a2, a3, a4, am_if lo0, am_if hv0, a7, a8, a9, a10, a11, a12, a13, a14, a15, a16, a17, a18, a19) := by
  unfold wpX_askWhole
  refine pk_loop (fun n i (s : (Nat → Int) × (Nat → Int)) => wX_askWhole_7 post pr_ (-1) ro_ tu_ un_ co_ fw_ wc_ wt_ wb_ li_ em_ hh_ ht_ hb_ hl_ lt_ lb_ br_ l3_ g3_ n (nI i) a1 a2 a3 a4 (am_if s.1) (am_if s.2) a7 a8 a9 a10 a11 a12 a13 a14 a15 a16 a17 a18 a19) (fun i s => (∀ i', i' < i → s.1 i' = 0) ∧ ∀ i', i' < i → s.2 i' = 20) 3 0 (lo0, hv0) (by omega) ⟨fun _ z => absurd z (by omega), fun _ z => absurd z (by omega)⟩ ?_ ?_
  · rintro n ⟨lo, hv⟩ ⟨h1, h2⟩
    exact pk_le 3 3 (fun _ => h lo hv h1 h2) (fun z => absurd z (by omega))
  · rintro n i ⟨lo, hv⟩ hi ⟨h1, h2⟩ hn
    refine pk_le 3 i (fun z => absurd z (by omega)) (fun _ => ⟨pk_in i 3 hi, nm_r (e' := am_if (am_up lo i 0)) ?_ ⟨pk_in i 3 hi, nm_r (e' := am_if (am_up hv i 20)) ?_ (nm_r (nI_1 i) (hn (am_up lo i 0, am_up hv i 20) ⟨fun i' hi' => ?_, fun i' hi' => ?_⟩))⟩⟩)
    · rw [nI_clamp (by omega)]; exact am_uI lo i 0
    · rw [nI_clamp (by omega)]; exact am_uI hv i 20
    · show am_up lo i 0 i' = 0
      by_cases e : i' = i
      · rw [e, am_ups]
      · rw [am_upn _ _ e]; exact h1 i' (by omega)
    · show am_up hv i 20 i' = 20
      by_cases e : i' = i
      · rw [e, am_ups]
      · rw [am_upn _ _ e]; exact h2 i' (by omega)
theorem am_askGoal {post : St2 → Prop} {Gd As0 : Nat → Int} (hG : am_s7 Gd) (h : ∀ As, (∀ i, i < 3 → As i = Gd i) → post (pr_, wo_, ro_, tu_, un_, co_, fw_, wc_, wt_, wb_, li_, em_, hh_, ht_, hb_, hl_, lt_, lb_, br_, l3_, g3_, a1, a2, a3, am_if Gd, a5, a6, am_if As, a8, a9, a10, a11, a12, a13, a14, a15, a16, a17, a18, a19)) : wpX_askGoal post (pr_, wo_, ro_, tu_, un_, co_, fw_, wc_, wt_, wb_, li_, em_, hh_, ht_, hb_, hl_, lt_, lb_, br_, l3_, g3_, a1, a2, a3, am_if Gd, a5, a6, am_if As0, a8, a9, a10, a11, a12, a13, a14, a15, a16, a17, a18, a19) := by
  unfold wpX_askGoal
  refine pk_loop (fun n i (As : Nat → Int) => wX_askGoal_2 post pr_ wo_ ro_ tu_ un_ co_ fw_ wc_ wt_ wb_ li_ em_ hh_ ht_ hb_ hl_ lt_ lb_ br_ l3_ g3_ n (nI i) a1 a2 a3 (am_if Gd) a5 a6 (am_if As) a8 a9 a10 a11 a12 a13 a14 a15 a16 a17 a18 a19) (fun i As => ∀ i', i' < i → As i' = Gd i') 3 0 As0 (by omega) (fun _ z => absurd z (by omega)) ?_ ?_
  · intro n As hI
    exact pk_le 3 3 (fun _ => h As hI) (fun z => absurd z (by omega))
  · intro n i As hi hI hn
    have b := hG i hi
    refine pk_le 3 i (fun z => absurd z (by omega)) (fun _ => ⟨pk_in i 3 hi, pk_in i 3 hi, nm_r (e' := am_if (am_up As i (Gd i))) ?_ (nm_r (nI_1 i) (hn _ (fun i' hi' => ?_)))⟩)
    · rw [nI_clamp (by omega)]
      show upd (am_if As) i (vp_nar .byte (am_I (Gd i))) = _
      rw [am_nbyte (by omega) (by omega), am_uI]
    · by_cases e : i' = i
      · rw [e, am_ups]
      · rw [am_upn _ _ e]; exact hI i' (by omega)
theorem am_askAmount {post : St2 → Prop} {As0 : Nat → Int} {a : Nat} {sg : Int} (ha : a < 3) (hs : sg = 1 ∨ sg = -1) (h : ∀ As, (∀ i, i < 3 → As i = if i = a then sg else 0) → post (pr_, wo_, ro_, tu_, un_, co_, fw_, wc_, wt_, wb_, li_, em_, hh_, ht_, hb_, hl_, lt_, lb_, br_, l3_, g3_, a1, a2, a3, a4, a5, a6, am_if As, a8, a9, a10, a11, a12, a13, a14, a15, a16, a17, a18, a19)) : wpX_askAmount post (pr_, wo_, ro_, tu_, un_, co_, fw_, wc_, wt_, wb_, li_, em_, hh_, ht_, hb_, hl_, lt_, lb_, br_, l3_, g3_, a1, a2, a3, a4, a5, a6, am_if As0, a8, a9, a10, a11, a12, a13, a14, a15, a16, a17, a18, a19) (nI a) (am_I sg) := by
  unfold wpX_askAmount
  refine pk_loop (fun n i (As : Nat → Int) => wX_askAmount_2 post (nI a) (am_I sg) pr_ wo_ ro_ tu_ un_ co_ fw_ wc_ wt_ wb_ li_ em_ hh_ ht_ hb_ hl_ lt_ lb_ br_ l3_ g3_ n (nI i) a1 a2 a3 a4 a5 a6 (am_if As) a8 a9 a10 a11 a12 a13 a14 a15 a16 a17 a18 a19) (fun i As => ∀ i', i' < i → As i' = if i' = a then sg else 0) 3 0 As0 (by omega) (fun _ z => absurd z (by omega)) ?_ ?_
  · intro n As hI
    exact pk_le 3 3 (fun _ => h As hI) (fun z => absurd z (by omega))
  · intro n i As hi hI hn
    have step : ∀ x : Int, x = (if i = a then sg else 0) → wX_askAmount_2 post (nI a) (am_I sg) pr_ wo_ ro_ tu_ un_ co_ fw_ wc_ wt_ wb_ li_ em_ hh_ ht_ hb_ hl_ lt_ lb_ br_ l3_ g3_ n (nI (i + 1)) a1 a2 a3 a4 a5 a6 (am_if (am_up As i x)) a8 a9 a10 a11 a12 a13 a14 a15 a16 a17 a18 a19 := by
      intro x hx
      refine hn _ (fun i' hi' => ?_)
      by_cases e : i' = i
      · rw [e, am_ups]; exact hx
      · rw [am_upn _ _ e]; exact hI i' (by omega)
    refine pk_le 3 i (fun z => absurd z (by omega)) (fun _ => pk_eq i a (fun z => ⟨pk_in i 3 hi, nm_r ?_ (nm_r (nI_1 i) (step sg (by rw [if_pos z])))⟩) (fun z => ⟨pk_in i 3 hi, nm_r ?_ (nm_r (nI_1 i) (step 0 (by rw [if_neg z])))⟩))
    · rw [nI_clamp (by omega), am_byte (by omega) (by omega), am_uI]
    · rw [nI_clamp (by omega)]
      exact am_uI As i 0
theorem am_askCondition {post : St2 → Prop} {N As0 : Nat → Int} {sg : Int} (hN : am_s7 N) (hs : sg = 1 ∨ sg = -1) (h : ∀ As, (∀ i, i < 3 → As i = sg * N i) → post (pr_, wo_, ro_, tu_, un_, co_, fw_, wc_, wt_, wb_, li_, em_, hh_, ht_, hb_, hl_, lt_, lb_, br_, l3_, g3_, am_if N, a2, a3, a4, a5, a6, am_if As, a8, a9, a10, a11, a12, a13, a14, a15, a16, a17, a18, a19)) : wpX_askCondition post (pr_, wo_, ro_, tu_, un_, co_, fw_, wc_, wt_, wb_, li_, em_, hh_, ht_, hb_, hl_, lt_, lb_, br_, l3_, g3_, am_if N, a2, a3, a4, a5, a6, am_if As0, a8, a9, a10, a11, a12, a13, a14, a15, a16, a17, a18, a19) (nI 0) (am_I sg) := by
  unfold wpX_askCondition
  refine pk_loop (fun n i (As : Nat → Int) => wX_askCondition_2 post (nI 0) (am_I sg) pr_ wo_ ro_ tu_ un_ co_ fw_ wc_ wt_ wb_ li_ em_ hh_ ht_ hb_ hl_ lt_ lb_ br_ l3_ g3_ n (nI i) (am_if N) a2 a3 a4 a5 a6 (am_if As) a8 a9 a10 a11 a12 a13 a14 a15 a16 a17 a18 a19) (fun i As => ∀ i', i' < i → As i' = sg * N i') 3 0 As0 (by omega) (fun _ z => absurd z (by omega)) ?_ ?_
  · intro n As hI
    exact pk_le 3 3 (fun _ => h As hI) (fun z => absurd z (by omega))
  · intro n i As hi hI hn
    have b := hN i hi
    have b2 : (sg * N i).natAbs ≤ 7 := am_nbm1 hs b
    refine pk_le 3 i (fun z => absurd z (by omega)) (fun _ => ⟨pk_in (0 * 3 + i) 15 (by omega) (am_ix3 0 i), pk_in i 3 hi, nm_r (e' := am_if (am_up As i (sg * N i))) ?_ (nm_r (nI_1 i) (hn _ (fun i' hi' => ?_)))⟩)
    · rw [nI_clamp (by omega), pk_cl (0 * 3 + i) (am_ix3 0 i), Nat.zero_mul, Nat.zero_add]
      show upd (am_if As) i ((am_I sg * am_I (N i)).toInt8.toInt32) = _
      rw [am_Imul, am_byte (by omega) (by omega), am_uI]
    · by_cases e : i' = i
      · rw [e, am_ups]
      · rw [am_upn _ _ e]; exact hI i' (by omega)
end
/-! states between calls: the condition and the goal stand -/
def am_Sv (P : Nat) (N Kd Bd Gd : Nat → Int) (x y : Int64) (tp : Nat → Int) (s : St2) : Prop :=
  ∃ (w : Int) (rows t cc ff ww n : Nat) (u : Int) (lo hv As R Q T : Nat → Int) (rn cn : Nat → Nat) (L : Nat → Nat → Int) (em hh hl br l3 g3 : Int32) (ht hb lt lb : Int64) (b18 b19 : Nat → Int32), s = (nI P, am_I w, nI rows, nI t, am_L u, nI cc, nI ff, nI ww, x, y, nI n, em, hh, ht, hb, hl, lt, lb, br, l3, g3, am_if N, am_if Kd, am_if Bd, am_if Gd, am_if lo, am_if hv, am_if As, am_if R, am_if Q, am_lf T, am_nf rn, am_nf cn, am_lf tp, am_lf (L 0), am_lf (L 1), am_lf (L 2), am_lf (L 3), b18, b19)
/-- the condition: in slot 0 or none, and the goal its numbers -/
def am_cf (P : Nat) (N Kd Bd Gd : Nat → Int) : Prop := P < 2 ∧ am_s7 N ∧ am_s7 Gd ∧ (Kd 0 = 0 ∨ Kd 0 = 1 ∨ Kd 0 = 2) ∧ (Bd 0).natAbs ≤ 128 ∧ (P = 1 → ∀ i, i < 3 → N i = Gd i)
def am_cm (P : Nat) (Kd : Nat → Int) : Nat := am_mk (decide (P = 1)) (Kd 0)
theorem am_cfk {P : Nat} {N Kd Bd Gd As : Nat → Int} (h : am_cf P N Kd Bd Gd) (hA : ∀ i, i < 3 → As i = Gd i) : am_hk (am_cm P Kd) (am_cg (Kd 0) N) As := by
  obtain ⟨hP, hN, hG, hk, hB, hNG⟩ := h
  by_cases e : P = 1
  · have en := hNG e
    have m1 : am_cm P Kd = if Kd 0 = 1 then 2 else 1 := by unfold am_cm am_mk; rw [if_pos (by simp; exact e)]
    by_cases k2 : Kd 0 = 2
    · refine Or.inr (Or.inr ⟨by rw [m1, if_neg (by omega)], fun j hj => ?_⟩)
      unfold am_cg am_sgn
      rw [if_pos k2, en j hj, hA j hj]; omega
    · refine Or.inr (Or.inl ⟨by rw [m1]; split <;> omega, fun j hj => ?_⟩)
      unfold am_cg am_sgn
      rw [if_neg k2, if_pos rfl, en j hj, hA j hj]; omega
  · left
    unfold am_cm am_mk
    rw [if_neg (by simp; exact e)]
theorem am_dueC {m : Nat} {g o o' : Nat → Int} {b V : Int} (h : ∀ i, i < 3 → o i = o' i) (hd : am_due m g b o V) : am_due m g b o' V := by
  have e := (am_mp h).1
  unfold am_due at hd ⊢
  rw [e] at hd
  rcases hd with ⟨a, b⟩ | ⟨a, b, c⟩ | ⟨a, b, c⟩
  · exact Or.inl ⟨a, b⟩
  · exact Or.inr (Or.inl ⟨a, fun j hj => by rw [b j hj, h j hj], c⟩)
  · exact Or.inr (Or.inr ⟨a, fun j hj => by rw [b j hj, h j hj], c⟩)
theorem am_rs2C {m : Nat} {g o o' : Nat → Int} {b : Int} {r : Int32} {x y : Int64} (h : ∀ i, i < 3 → o i = o' i) (hd : am_rs2 m g b o r x y) : am_rs2 m g b o' r x y := by
  rcases hd with a | ⟨a, b, u, V, c, d, e, f⟩
  · exact Or.inl a
  · exact Or.inr ⟨a, b, u, V, c, d, am_dueC h e, f⟩
theorem am_nbool {r : Int32} (h : r = 0 ∨ r = 1) : narrow .boolean (.int r) = .int r := by
  rcases h with e | e <;> subst e <;> rfl
theorem am_rs01 {m : Nat} {g o : Nat → Int} {b : Int} {r : Int32} {x y : Int64} (h : am_rs2 m g b o r x y) : r = 0 ∨ r = 1 := by
  rcases h with ⟨a, _⟩ | ⟨a, _⟩
  · exact Or.inl a
  · exact Or.inr a
theorem am_rd01 {m : Nat} {g o : Nat → Int} {b : Int} {r : Int32} {x y : Int64} {tp : Nat → Int} (h : am_rsd m g b o r x y tp) : r = 0 ∨ r = 1 := by
  rcases h with ⟨a, _⟩ | ⟨a, _⟩
  · exact Or.inl a
  · exact Or.inr a
theorem am_rd2 {m : Nat} {g o : Nat → Int} {b : Int} {r : Int32} {x y : Int64} {tp : Nat → Int} (hk : am_hk m g o) (h : am_rsd m g b o r x y tp) : am_rs2 m g b o r x y := by
  rcases h with a | ⟨a, b, u, c, d, e, f, k⟩
  · exact Or.inl a
  · obtain ⟨V, v1, v2⟩ := k hk
    exact Or.inr ⟨a, b, u, V, c, by omega, v1, v2, e⟩
theorem am_s7C {o o' : Nat → Int} (h : ∀ i, i < 3 → o i = o' i) (h7 : am_s7 o') : am_s7 o := fun j hj => by rw [h j hj]; exact h7 j hj
/-- the goal is solved, by any of the three -/
theorem am_solveGoal {post : Int32 → St2 → Prop} {P : Nat} {N Kd Bd Gd : Nat → Int} {x y : Int64} {tp : Nat → Int} {s : St2} {e : Nat} (hc : am_cf P N Kd Bd Gd) (hs : am_Sv P N Kd Bd Gd x y tp s) (he : e < 3)
    (h : ∀ r x y tp s, am_Sv P N Kd Bd Gd x y tp s → am_rs2 (am_cm P Kd) (am_cg (Kd 0) N) (am_sgn (Kd 0) 0 * Bd 0) Gd r x y → post r s) : wpX_solveGoal post s (nI e) := by
  obtain ⟨w, rows, t, cc, ff, ww, n, u, lo, hv, As, R, Q, T, rn, cn, L, em, hh, hl, br, l3, g3, ht, hb, lt, lb, b18, b19, rfl⟩ := hs
  have hc' := hc
  obtain ⟨hP, hN, hG, hk, hB, hNG⟩ := hc'
  unfold wpX_solveGoal
  refine am_askWhole (fun lo hv hlo hhv => ?_)
  refine am_askGoal hG (fun As hA => ?_)
  have hk' := am_cfk hc hA
  have hA7 := am_s7C hA hG
  have inc : decide (P = 1) = true ↔ (P = 1 ∧ (-1 : Int) = -1) := by simp
  unfold wpX_solve
  refine pk_eq e 0 (fun z => ?_) (fun z => pk_eq e 1 (fun z2 => ?_) (fun z2 => ?_))
  · refine am_solveByPoints hP (Or.inr rfl) inc hk hN hB hlo hhv hA7 hk' (fun r x y hr rows t cc ff ww u R Q T tp rn cn => ?_)
    have hr2 := am_rs2C hA (am_res2 hr)
    have nb := am_nbool (am_rs01 hr2)
    exact ⟨nb, nb, h r x y tp _ ⟨_, _, _, _, _, _, _, _, _, _, _, _, _, _, _, _, _, _, _, _, _, _, _, _, _, _, _, _, _, rfl⟩ hr2⟩
  · refine am_solveByWorth hP (Or.inr rfl) inc hk hN hB hlo hhv hA7 (fun r x y rows t cc ff ww u R Q T tp rn cn hr => ?_)
    have hr2 := am_rs2C hA (am_rd2 hk' hr)
    have nb := am_nbool (am_rs01 hr2)
    exact ⟨nb, nb, h r x y tp _ ⟨_, _, _, _, _, _, _, _, _, _, _, _, _, _, _, _, _, _, _, _, _, _, _, _, _, _, _, _, _, rfl⟩ hr2⟩
  · refine am_solveByTakingOut hP (Or.inr rfl) inc hk hN hB hlo hhv hA7 hk' (fun r x y rows t n R Q em hh hl ht hb lt lb L hr => ?_)
    have hr2 := am_rs2C hA hr
    have nb := am_nbool (am_rs01 hr2)
    exact ⟨nb, nb, h r x y tp _ ⟨_, _, _, _, _, _, _, _, _, _, _, _, _, _, _, _, _, _, _, _, _, _, _, _, _, _, _, _, _, rfl⟩ hr2⟩
end
section
def am_St (P : Nat) (N Kd Bd Gd : Nat → Int) (s : St2) : Prop := ∃ x y tp, am_Sv P N Kd Bd Gd x y tp s
/-- what is asked by the condition in slot 0 -/
def am_nn' (P : Nat) (N Kd Bd : Nat → Int) : Prop := am_none (am_cm P Kd) (am_cg (Kd 0) N) (am_sgn (Kd 0) 0 * Bd 0)
def am_dd (P : Nat) (N Kd Bd Gd : Nat → Int) (V : Int) : Prop := am_due (am_cm P Kd) (am_cg (Kd 0) N) (am_sgn (Kd 0) 0 * Bd 0) Gd V
theorem am_mb7 {o : Nat → Int} (h : am_s7 o) : (am_most o).natAbs ≤ 420 := by
  have key : ∀ i, i < 3 → (am_ps (o i)).natAbs ≤ 7 := fun i hi => by
    have := h i hi
    unfold am_ps
    split <;> omega
  have k0 := key 0 (by omega)
  have k1 := key 1 (by omega)
  have k2 := key 2 (by omega)
  unfold am_most; omega
theorem am_Vb {m : Nat} {g o : Nat → Int} {b V : Int} (h : am_due m g b o V) (ho : am_s7 o) (hb : b.natAbs ≤ 128) : V.natAbs ≤ 1000 := by
  have := am_mb7 ho
  rcases h with ⟨_, e⟩ | ⟨_, _, e⟩ | ⟨_, _, e⟩
  · omega
  · split at e <;> omega
  · omega
theorem am_sgb {kd B : Int} (h : B.natAbs ≤ 128) : (am_sgn kd 0 * B).natAbs ≤ 128 := am_nbm1 (am_sgn1 kd 0) h
theorem am_02 {p : Int32} (h0 : ¬ p < 0) (h2 : ¬ 2 < p) : ∃ e : Nat, e < 3 ∧ p = nI e := by
  obtain ⟨j, hj, e⟩ := nI_of2 (x := p) (M := 2) (n := 2) (by decide) h0 (Int32.not_lt.mp h2)
  exact ⟨j, by omega, e⟩
theorem am_bestTop {post : Int32 → St2 → Prop} {P : Nat} {N Kd Bd Gd : Nat → Int} {s : St2} {p : Int32} (hc : am_cf P N Kd Bd Gd) (hs : am_St P N Kd Bd Gd s)
    (h0 : (p < 0 ∨ 2 < p) → ∀ s, am_St P N Kd Bd Gd s → post (-10000000) s) (h1 : ¬ p < 0 → ¬ 2 < p → am_nn' P N Kd Bd → ∀ s, am_St P N Kd Bd Gd s → post (-30000000) s)
    (h2 : ¬ p < 0 → ¬ 2 < p → ¬ am_nn' P N Kd Bd → ∀ V, am_dd P N Kd Bd Gd V → ∀ s, am_St P N Kd Bd Gd s → post (am_I V) s) : wpX_bestTop post s p := by
  have hs' := hs
  obtain ⟨x, y, tp, hv⟩ := hs
  have hv' := hv
  obtain ⟨w, rows, t, cc, ff, ww, n, u, lo, hv, As, R, Q, T, rn, cn, L, em, hh, hl, br, l3, g3, ht, hb, lt, lb, b18, b19, rfl⟩ := hv
  unfold wpX_bestTop wpX_isEngine
  refine br_c (fun z => br_t rfl (h0 (Or.inl z) _ hs')) (fun z => br_c (fun z2 => br_t rfl (h0 (Or.inr z2) _ hs')) (fun z2 => br_f (by decide) ?_))
  obtain ⟨e, he, rfl⟩ := am_02 z z2
  refine am_solveGoal hc hv' he (fun r x y tp s hs hr => ?_)
  have hst : am_St P N Kd Bd Gd s := ⟨x, y, tp, hs⟩
  obtain ⟨w, rows, t, cc, ff, ww, n, u, lo, hv, As, R, Q, T, rn, cn, L, em, hh, hl, br, l3, g3, ht, hb, lt, lb, b18, b19, rfl⟩ := hs
  rcases hr with ⟨rfl, hn⟩ | ⟨rfl, hn, u, V, hu, hub, hV, rfl, rfl⟩
  · exact br_t rfl (h1 z z2 hn _ hst)
  · refine br_f (by decide) ?_
    have vb := am_Vb hV hc.2.2.1 (am_sgb hc.2.2.2.2.1)
    exact am_topOf hu (by omega) (by omega) (h2 z z2 hn V hV _ hst)
theorem am_solveReach {post : Int32 → St2 → Prop} {P : Nat} {N Kd Bd Gd : Nat → Int} {x y : Int64} {tp : Nat → Int} {s : St2} {a : Nat} {p1 : Int32} (hc : am_cf P N Kd Bd Gd) (hs : am_Sv P N Kd Bd Gd x y tp s) (ha : a < 3)
    (h : ∀ r x y tp s, am_Sv P N Kd Bd Gd x y tp s → ((r = 0 ∧ am_nn' P N Kd Bd) ∨ (r = 1 ∧ ¬ am_nn' P N Kd Bd ∧ ∃ u, 0 < u ∧ u ≤ 2058 ∧ y = am_L u ∧ ∀ i, i < 3 → (tp i).natAbs ≤ 6000000)) → post r s) : wpX_solveReach post s (nI a) p1 := by
  obtain ⟨w, rows, t, cc, ff, ww, n, u, lo, hv, As, R, Q, T, rn, cn, L, em, hh, hl, br, l3, g3, ht, hb, lt, lb, b18, b19, rfl⟩ := hs
  obtain ⟨hP, hN, hG, hk, hB, hNG⟩ := hc
  unfold wpX_solveReach
  refine am_askWhole (fun lo hv hlo hhv => ?_)
  have inc : decide (P = 1) = true ↔ (P = 1 ∧ (-1 : Int) = -1) := by simp
  have go : ∀ (As0 : Nat → Int) (sg : Int), (sg = 1 ∨ sg = -1) → wX_solveReach_15 post (am_I sg) (nI a) (nI P) (am_I (-1)) (nI rows) (nI t) (am_L u) (nI cc) (nI ff) (nI ww) x y (nI n) em hh ht hb hl lt lb br l3 g3 (am_if N) (am_if Kd) (am_if Bd) (am_if Gd) (am_if lo) (am_if hv) (am_if As0) (am_if R) (am_if Q) (am_lf T) (am_nf rn) (am_nf cn) (am_lf tp) (am_lf (L 0)) (am_lf (L 1)) (am_lf (L 2)) (am_lf (L 3)) b18 b19 := by
    intro As0 sg hsg
    unfold wX_solveReach_15
    refine am_askAmount ha hsg (fun As hA => ?_)
    have hA7 : am_s7 As := fun j hj => by
      rw [hA j hj]
      rcases hsg with e | e <;> rw [e] <;> split <;> decide
    unfold wpX_solve
    refine br_f (by decide) (br_t rfl ?_)
    refine am_solveByWorth hP (Or.inr rfl) inc hk hN hB hlo hhv hA7 (fun r x y rows t cc ff ww u R Q T tp rn cn hr => ?_)
    have nb := am_nbool (am_rd01 hr)
    refine ⟨nb, nb, h r x y tp _ ⟨_, _, _, _, _, _, _, _, _, _, _, _, _, _, _, _, _, _, _, _, _, _, _, _, _, _, _, _, _, rfl⟩ ?_⟩
    rcases hr with ⟨a, b⟩ | ⟨a, b, u, c, d, e, f, _⟩
    · exact Or.inl ⟨a, b⟩
    · exact Or.inr ⟨a, b, u, c, d, e, f⟩
  exact br_c (fun _ => go As (-1) (Or.inr rfl)) (fun _ => go As 1 (Or.inl rfl))
theorem am_reachTop {post : Int32 → St2 → Prop} {P : Nat} {N Kd Bd Gd : Nat → Int} {s : St2} {p0 p1 : Int32} (hc : am_cf P N Kd Bd Gd) (hs : am_St P N Kd Bd Gd s)
    (h0 : (p0 < 0 ∨ 3 ≤ p0 ∨ p1 < 0 ∨ ¬ p1 ≤ 1) → ∀ s, am_St P N Kd Bd Gd s → post (-10000000) s) (h1 : ¬ p0 < 0 → ¬ 3 ≤ p0 → ¬ p1 < 0 → p1 ≤ 1 → am_nn' P N Kd Bd → ∀ s, am_St P N Kd Bd Gd s → post (-30000000) s)
    (h2 : ¬ p0 < 0 → ¬ 3 ≤ p0 → ¬ p1 < 0 → p1 ≤ 1 → ¬ am_nn' P N Kd Bd → ∀ v : Int, v.natAbs ≤ 6000000 → ∀ s, am_St P N Kd Bd Gd s → post (am_I v) s) : wpX_reachTop post s p0 p1 := by
  have hs' := hs
  obtain ⟨x, y, tp, hv⟩ := hs
  have hv' := hv
  obtain ⟨w, rows, t, cc, ff, ww, n, u, lo, hv, As, R, Q, T, rn, cn, L, em, hh, hl, br, l3, g3, ht, hb, lt, lb, b18, b19, rfl⟩ := hv
  unfold wpX_reachTop wpX_isAmount
  refine br_c (fun z => br_t rfl (h0 (Or.inl z) _ hs')) (fun z => br_c (fun z2 => br_t rfl (h0 (Or.inr (Or.inl z2)) _ hs')) (fun z2 => br_f (by decide) ?_))
  refine br_c (fun z3 => h0 (Or.inr (Or.inr (Or.inl z3))) _ hs') (fun z3 => br_c (fun z4 => ?_) (fun z4 => h0 (Or.inr (Or.inr (Or.inr z4))) _ hs'))
  obtain ⟨a, ha, rfl⟩ : ∃ a : Nat, a < 3 ∧ p0 = nI a := by
    rcases pk_ix p0 (n := 3) (by omega) with y | y | ⟨j, hj, e⟩
    · exact absurd y z
    · exact absurd y z2
    · exact ⟨j, hj, e⟩
  refine am_solveReach hc hv' ha (fun r x y tp s hs hr => ?_)
  have hst : am_St P N Kd Bd Gd s := ⟨x, y, tp, hs⟩
  obtain ⟨w, rows, t, cc, ff, ww, n, u, lo, hv, As, R, Q, T, rn, cn, L, em, hh, hl, br, l3, g3, ht, hb, lt, lb, b18, b19, rfl⟩ := hs
  rcases hr with ⟨rfl, hn⟩ | ⟨rfl, hn, u, hu, hub, rfl, htp⟩
  · exact br_t rfl (h1 z z2 z3 z4 hn _ hst)
  · refine br_f (by decide) ⟨pk_in a 3 ha, ?_⟩
    rw [nI_clamp (by omega)]
    exact am_topOf' hu (by omega) (htp a ha) (fun v hv => h2 z z2 z3 z4 hn v hv _ hst)
/-- one side of a condition, against what the others leave -/
theorem am_staysWithin {post : Int32 → St2 → Prop} {P : Nat} {N Kd Bd Gd : Nat → Int} {s : St2} {sg : Int} (hc : am_cf P N Kd Bd Gd) (hs : am_St P N Kd Bd Gd s) (hsg : sg = 1 ∨ sg = -1)
    (h0 : sg * Bd 0 < am_most (fun i => sg * N i) → ∀ s, am_St P N Kd Bd Gd s → post 0 s) (h1 : am_most (fun i => sg * N i) ≤ sg * Bd 0 → ∀ s, am_St P N Kd Bd Gd s → post 1 s) : wpX_staysWithin post s (nI 0) (am_I sg) := by
  obtain ⟨x, y, tp, w, rows, t, cc, ff, ww, n, u, lo, hv, As, R, Q, T, rn, cn, L, em, hh, hl, br, l3, g3, ht, hb, lt, lb, b18, b19, rfl⟩ := hs
  obtain ⟨hP, hN, hG, hk, hB, hNG⟩ := hc
  unfold wpX_staysWithin
  refine am_askWhole (fun lo hv hlo hhv => ?_)
  refine am_askCondition hN hsg (fun As hA => ?_)
  have hA7 : am_s7 As := fun j hj => by rw [hA j hj]; exact am_nbm1 hsg (hN j hj)
  have inc : false = true ↔ (P = 1 ∧ (0 : Int) = -1) := by simp
  have m0 : am_mk false (Kd 0) = 0 := rfl
  unfold wpX_solve
  refine br_t rfl ?_
  refine am_solveByPoints (w := 0) hP (Or.inl rfl) inc hk hN hB hlo hhv hA7 (Or.inl m0) (fun r x y hr rows t cc ff ww u R Q T tp rn cn => ?_)
  have nb := am_nbool (am_rs01 (am_res2 hr))
  refine ⟨nb, ?_⟩
  rw [m0] at hr
  rcases hr with ⟨rfl, hn⟩ | ⟨rfl, hn, u2, V, hu, hub, hV, rfl, rfl⟩
  · exfalso
    rcases hn with ⟨a, _⟩ | ⟨a, _⟩ <;> omega
  · refine br_f (by decide) ⟨pk_in 0 5 (by omega), ?_⟩
    have eV : V = am_most (fun i => sg * N i) := by
      rcases hV with ⟨_, e⟩ | ⟨a, _⟩ | ⟨a, _⟩
      · rw [e]; exact (am_mp hA).1
      · omega
      · omega
    have sb : (sg * Bd 0).natAbs ≤ 128 := am_nbm1 hsg hB
    have vb : V.natAbs ≤ 420 := by
      rw [eV, ← (am_mp hA).1]; exact am_mb7 hA7
    have b1 := am_bm sb (show u2.natAbs ≤ 2058 by omega)
    have b2 := am_bm (show u2.natAbs ≤ 2058 by omega) vb
    have e1 : (am_I sg * am_if Bd (nI 0).toNatClampNeg).toInt64 * am_L u2 = am_L (sg * Bd 0 * u2) := by
      rw [nI_clamp (by omega)]
      show (am_I sg * am_I (Bd 0)).toInt64 * am_L u2 = _
      rw [am_Imul, am_IL (by unfold am_V; omega), am_Lmul]
    rw [e1]
    refine am_lt (sg * Bd 0 * u2) (u2 * V) (by unfold am_W; omega) (by unfold am_W; omega) (fun z => h0 ?_ _ ⟨_, _, _, _, _, _, _, _, _, _, _, _, _, _, _, _, _, _, _, _, _, _, _, _, _, _, _, _, _, _, _, _, rfl⟩) (fun z => h1 ?_ _ ⟨_, _, _, _, _, _, _, _, _, _, _, _, _, _, _, _, _, _, _, _, _, _, _, _, _, _, _, _, _, _, _, _, rfl⟩)
    · rw [← eV]
      have e : sg * Bd 0 * u2 = u2 * (sg * Bd 0) := Int.mul_comm _ _
      rw [e] at z
      exact Int.lt_of_mul_lt_mul_left z (by omega)
    · rw [← eV]
      have e : sg * Bd 0 * u2 = u2 * (sg * Bd 0) := Int.mul_comm _ _
      rw [e] at z
      exact Int.le_of_mul_le_mul_left z hu
/-- whether the condition says nothing -/
def am_id (P : Nat) (N Kd Bd : Nat → Int) : Prop := P = 1 ∧ (Kd 0 = 2 ∨ am_most N ≤ Bd 0) ∧ (Kd 0 = 0 ∨ Bd 0 ≤ am_least N)
theorem am_redundant {post : Int32 → St2 → Prop} {P : Nat} {N Kd Bd Gd : Nat → Int} {s : St2} (hc : am_cf P N Kd Bd Gd) (hs : am_St P N Kd Bd Gd s)
    (h0 : ¬ am_id P N Kd Bd → ∀ s, am_St P N Kd Bd Gd s → post 0 s) (h1 : am_id P N Kd Bd → ∀ s, am_St P N Kd Bd Gd s → post 1 s) : wpX_redundant post s (nI 0) := by
  have hs' := hs
  obtain ⟨x, y, tp, w, rows, t, cc, ff, ww, n, u, lo, hv, As, R, Q, T, rn, cn, L, em, hh, hl, br, l3, g3, ht, hb, lt, lb, b18, b19, rfl⟩ := hs
  have hk := hc.2.2.2.1
  have hP := hc.1
  have bK : am_V (Kd 0) := by unfold am_V; omega
  have b2 : am_V 2 := by unfold am_V; omega
  have b0 : am_V 0 := by unfold am_V; omega
  have e1 : am_most (fun i => (1 : Int) * N i) = am_most N := (am_mp (fun i _ => Int.one_mul (N i))).1
  have e2 : am_most (fun i => (-1 : Int) * N i) = -(am_least N) := am_mn (fun i _ => by omega)
  unfold wpX_redundant
  refine am_has (by omega) (by omega) (fun z => br_t rfl (h0 (fun y => ?_) _ hs')) (fun z => br_f (by decide) ⟨pk_in 0 5 (by omega), ?_⟩)
  · have := y.1
    subst this
    exact absurd z (by decide)
  have hP1 : P = 1 := by rw [Nat.pow_zero, Nat.div_one] at z; omega
  -- the second side
  have second : ∀ s, am_St P N Kd Bd Gd s → (Kd 0 = 2 ∨ am_most N ≤ Bd 0) → (match s with | (pr_, wo_, ro_, tu_, un_, co_, fw_, wc_, wt_, wb_, li_, em_, hh_, ht_, hb_, hl_, lt_, lb_, br_, l3_, g3_, a1, a2, a3, a4, a5, a6, a7, a8, a9, a10, a11, a12, a13, a14, a15, a16, a17, a18, a19) => wX_redundant_29 post (nI 0) pr_ wo_ ro_ tu_ un_ co_ fw_ wc_ wt_ wb_ li_ em_ hh_ ht_ hb_ hl_ lt_ lb_ br_ l3_ g3_ a1 a2 a3 a4 a5 a6 a7 a8 a9 a10 a11 a12 a13 a14 a15 a16 a17 a18 a19) := by
    intro s hs ha
    have hs2 := hs
    obtain ⟨x, y, tp, w, rows, t, cc, ff, ww, n, u, lo, hv, As, R, Q, T, rn, cn, L, em, hh, hl, br, l3, g3, ht, hb, lt, lb, b18, b19, rfl⟩ := hs
    show wX_redundant_34 post (nI 0) 1 _ _ _ _ _ _ _ _ _ _ _ _ _ _ _ _ _ _ _ _ _ _ _ _ _ _ _ _ _ _ _ _ _ _ _ _ _ _ _ _
    unfold wX_redundant_34
    refine br_f (by decide) ⟨pk_in 0 5 (by omega), am_ieq (Kd 0) 0 bK b0 (fun q => h1 ⟨hP1, ha, Or.inl q⟩ _ hs2) (fun q => ?_)⟩
    refine am_staysWithin (sg := -1) hc hs2 (Or.inr rfl) (fun y s hs => ?_) (fun y s hs => ?_)
    · have hs3 := hs
      obtain ⟨x, y, tp, w, rows, t, cc, ff, ww, n, u, lo, hv, As, R, Q, T, rn, cn, L, em, hh, hl, br, l3, g3, ht, hb, lt, lb, b18, b19, rfl⟩ := hs
      refine br_t rfl (h0 (fun z2 => ?_) _ hs3)
      have := z2.2.2
      omega
    · have hs3 := hs
      obtain ⟨x, y, tp, w, rows, t, cc, ff, ww, n, u, lo, hv, As, R, Q, T, rn, cn, L, em, hh, hl, br, l3, g3, ht, hb, lt, lb, b18, b19, rfl⟩ := hs
      exact br_f (by decide) (h1 ⟨hP1, ha, Or.inr (by omega)⟩ _ hs3)
  refine am_ieq (Kd 0) 2 bK b2 (fun q => second _ hs' (Or.inl q)) (fun q => ?_)
  refine am_staysWithin (sg := 1) hc hs' (Or.inl rfl) (fun y s hs => ?_) (fun y s hs => ?_)
  · have hs3 := hs
    obtain ⟨x, y, tp, w, rows, t, cc, ff, ww, n, u, lo, hv, As, R, Q, T, rn, cn, L, em, hh, hl, br, l3, g3, ht, hb, lt, lb, b18, b19, rfl⟩ := hs
    refine br_t rfl ?_
    unfold wX_redundant_34
    refine br_t rfl (h0 (fun z2 => ?_) _ hs3)
    have := z2.2.1
    omega
  · have hs3 := hs
    obtain ⟨x, y, tp, w, rows, t, cc, ff, ww, n, u, lo, hv, As, R, Q, T, rn, cn, L, em, hh, hl, br, l3, g3, ht, hb, lt, lb, b18, b19, rfl⟩ := hs
    exact br_f (by decide) (second _ hs3 (Or.inr (by omega)))
end
section
/-! whole numbers -/
theorem am_flo {top b : Int} (hb : 0 < b) : ∃ f : Int, (if top.tdiv b * b ≤ top then top.tdiv b else top.tdiv b - 1) = f ∧ f * b ≤ top ∧ top < (f + 1) * b := by
  have e := Int.mul_tdiv_add_tmod top b
  have r1 : top.tmod b < b := Int.tmod_lt_of_pos top hb
  have r2 : -b < top.tmod b := Int.lt_tmod_of_pos top hb
  have c : b * top.tdiv b = top.tdiv b * b := Int.mul_comm _ _
  refine ⟨_, rfl, ?_⟩
  by_cases h : top.tdiv b * b ≤ top
  · rw [if_pos h]
    have e2 : (top.tdiv b + 1) * b = top.tdiv b * b + b := by grind
    exact ⟨h, by omega⟩
  · rw [if_neg h]
    have e2 : (top.tdiv b - 1) * b = top.tdiv b * b - b := by grind
    have e3 : (top.tdiv b - 1 + 1) * b = top.tdiv b * b := by grind
    exact ⟨by omega, by omega⟩
theorem am_floor {post : Int64 → Prop} {top b : Int} (hb : 0 < b) (hbb : b ≤ 1000) (ht : top.natAbs ≤ 10000) (h : ∀ f : Int, f * b ≤ top → top < (f + 1) * b → f.natAbs ≤ 10001 → post (am_L f)) : wpX_floor post () (am_L top) (am_L b) := by
  have wt : am_W top := by unfold am_W; omega
  have wb : am_W b := by unfold am_W; omega
  obtain ⟨f, ef, f1, f2⟩ := am_flo (top := top) hb
  have fb : f.natAbs ≤ 10001 := by
    rcases Int.lt_or_le f 0 with y | y
    · rcases Int.lt_or_le (f + 1) 0 with y2 | y2
      · have : (f + 1) * b ≤ (f + 1) * 1 := Int.mul_le_mul_of_nonpos_left (show f + 1 ≤ 0 by omega) (show 1 ≤ b by omega)
        omega
      · omega
    · have : f * 1 ≤ f * b := Int.mul_le_mul_of_nonneg_left (show 1 ≤ b by omega) y
      omega
  have fin := h f f1 f2 fb
  have e := Int.mul_tdiv_add_tmod top b
  have r1 : top.tmod b < b := Int.tmod_lt_of_pos top hb
  have r2 : -b < top.tmod b := Int.lt_tmod_of_pos top hb
  have c : b * top.tdiv b = top.tdiv b * b := Int.mul_comm _ _
  unfold wpX_floor wX_floor_13
  refine am_le b 0 wb am_W0 (fun z => absurd z (by omega)) (fun z => ⟨fun q => ?_, ?_⟩)
  · have := (am_Leq wb am_W0).mp q
    omega
  · rw [am_Ldiv wt wb, am_Lmul]
    refine am_le (top.tdiv b * b) top (by unfold am_W; omega) wt (fun z2 => ?_) (fun z2 => ?_)
    · rw [if_pos z2] at ef
      rw [ef]; exact fin
    · rw [if_neg (by omega)] at ef
      have e1 : am_L (top.tdiv b) - 1 = am_L f := by
        rw [show (1 : Int64) = am_L 1 from rfl, am_Lsub, ef]
      rw [e1]; exact fin
theorem am_fz {f b top : Int} (hb : 0 < b) (h1 : f * b ≤ top) (h2 : top < (f + 1) * b) (z : Int) : z * b ≤ top ↔ z ≤ f := by
  constructor
  · intro hz
    rcases Int.lt_or_le f z with y | y
    · have : (f + 1) * b ≤ z * b := Int.mul_le_mul_of_nonneg_right (show f + 1 ≤ z by omega) (by omega)
      omega
    · exact y
  · intro hz
    have : z * b ≤ f * b := Int.mul_le_mul_of_nonneg_right hz (by omega)
    omega
section
variable {pr_ wo_ ro_ tu_ co_ fw_ wc_ li_ em_ hh_ hl_ br_ l3_ g3_ : Int32} {un_ wt_ wb_ ht_ hb_ lt_ lb_ : Int64} {a1 a2 a3 a4 a5 a6 a7 a8 a9 a11 a12 a18 a19 : Nat → Int32} {a10 a13 a14 a15 a16 a17 : Nat → Int64}
theorem am_narrow {post : St2 → Prop} {n r a c : Int} (hn : n.natAbs ≤ 7) (hr : r.natAbs ≤ 10000) (ha : 0 ≤ a) (hab : a ≤ 20000) (hc : c.natAbs ≤ 20000)
    (h : ∀ a' c' : Int, 0 ≤ a' → a' ≤ 20000 → c'.natAbs ≤ 20000 → (∀ z : Int, (a' ≤ z ∧ z ≤ c') ↔ (a ≤ z ∧ z ≤ c ∧ n * z ≤ r)) → post (pr_, wo_, ro_, tu_, un_, co_, fw_, wc_, wt_, wb_, li_, em_, hh_, ht_, hb_, hl_, lt_, lb_, br_, am_I a', am_I c', a1, a2, a3, a4, a5, a6, a7, a8, a9, a10, a11, a12, a13, a14, a15, a16, a17, a18, a19)) : wpX_narrow post (pr_, wo_, ro_, tu_, un_, co_, fw_, wc_, wt_, wb_, li_, em_, hh_, ht_, hb_, hl_, lt_, lb_, br_, am_I a, am_I c, a1, a2, a3, a4, a5, a6, a7, a8, a9, a10, a11, a12, a13, a14, a15, a16, a17, a18, a19) (am_I n) (am_I r) := by
  have vn : am_V n := by unfold am_V; omega
  have vnn : am_V (-n) := by unfold am_V; omega
  have vr : am_V r := by unfold am_V; omega
  have v0 : am_V 0 := by unfold am_V; omega
  have va : am_V a := by unfold am_V; omega
  have vc : am_V c := by unfold am_V; omega
  unfold wpX_narrow
  refine am_ile n 0 vn v0 (fun z => am_ile 0 n v0 vn (fun z2 => ?_) (fun z2 => ?_)) (fun z => ?_)
  · have n0 : n = 0 := by omega
    subst n0
    refine am_ile 0 r v0 vr (fun z3 => h a c ha hab hc (fun y => ?_)) (fun z3 => ?_)
    · rw [Int.zero_mul]
      exact ⟨fun q => ⟨q.1, q.2, z3⟩, fun q => ⟨q.1, q.2.1⟩⟩
    · rw [show (-1 : Int32) = am_I (-1) from rfl]
      refine h a (-1) ha hab (by omega) (fun y => ?_)
      rw [Int.zero_mul]
      exact ⟨fun q => by omega, fun q => by omega⟩
  · rw [am_Ineg, am_IL vr, am_IL vnn]
    refine am_floor (by omega) (by omega) hr (fun f f1 f2 fb => ?_)
    refine nm_r (e' := am_I (-f)) (by rw [am_Lneg, am_LI (by unfold am_W; omega)]) ?_
    have key : ∀ y : Int, n * y ≤ r ↔ -f ≤ y := by
      intro y
      have := am_fz (by omega) f1 f2 (-y)
      have e : -y * -n = n * y := by grind
      rw [e] at this
      rw [this]
      exact ⟨fun q => by omega, fun q => by omega⟩
    refine am_ile (-f) a (by unfold am_V; omega) va (fun z3 => h a c ha hab hc (fun y => ?_)) (fun z3 => h (-f) c (by omega) (by omega) hc (fun y => ?_))
    · rw [key y]
      exact ⟨fun q => ⟨q.1, q.2, by omega⟩, fun q => ⟨q.1, q.2.1⟩⟩
    · rw [key y]
      exact ⟨fun q => ⟨by omega, q.2, q.1⟩, fun q => ⟨q.2.2, q.2.1⟩⟩
  · rw [am_IL vr, am_IL vn]
    refine am_floor (by omega) (by omega) hr (fun f f1 f2 fb => ?_)
    have key : ∀ y : Int, n * y ≤ r ↔ y ≤ f := by
      intro y
      have := am_fz (by omega) f1 f2 y
      have e : y * n = n * y := Int.mul_comm _ _
      rw [e] at this
      exact this
    rw [am_LI (by unfold am_W; omega)]
    refine am_ile c f vc (by unfold am_V; omega) (fun z3 => h a c ha hab hc (fun y => ?_)) (fun z3 => h a f ha hab (by omega) (fun y => ?_))
    · rw [key y]
      exact ⟨fun q => ⟨q.1, q.2, by omega⟩, fun q => ⟨q.1, q.2.1⟩⟩
    · rw [key y]
      exact ⟨fun q => ⟨q.1, by omega, q.2⟩, fun q => ⟨q.1, q.2.2⟩⟩
/-- behind the first slot nothing narrows -/
theorem am_th13 {post : Int32 → St2 → Prop} {P k : Nat} {x1 x2 : Int32} {a c : Int} (hP : P < 2) (hk : 1 ≤ k) (hk5 : k ≤ 5) (ha : am_V a) (hc : am_V c)
    (h : post (am_I (if c < a then 0 else c - a + 1)) (nI P, wo_, ro_, tu_, un_, co_, fw_, wc_, wt_, wb_, li_, em_, hh_, ht_, hb_, hl_, lt_, lb_, br_, am_I a, am_I c, a1, a2, a3, a4, a5, a6, a7, a8, a9, a10, a11, a12, a13, a14, a15, a16, a17, a18, a19)) :
    ∀ n, 6 ≤ n + k → wX_thirds_13 post x1 x2 n (nI k) (nI P) wo_ ro_ tu_ un_ co_ fw_ wc_ wt_ wb_ li_ em_ hh_ ht_ hb_ hl_ lt_ lb_ br_ (am_I a) (am_I c) a1 a2 a3 a4 a5 a6 a7 a8 a9 a10 a11 a12 a13 a14 a15 a16 a17 a18 a19 := by
  intro n
  induction n generalizing k with
  | zero => intro z; omega
  | succ n ih =>
    intro hn
    refine pk_le 5 k (fun z => am_ilt c a hc ha (fun z2 => ?_) (fun z2 => ?_)) (fun z => ?_)
    · rw [if_pos z2] at h; exact h
    · rw [if_neg (by omega)] at h
      rw [am_Isub, show (1 : Int32) = am_I 1 from rfl, am_Iadd]; exact h
    refine am_has (by omega) (by omega) (fun _ => br_t rfl (nm_r (nI_1 k) (ih (by omega) (by omega) (by omega)))) (fun z2 => ?_)
    exfalso
    have : P / 2 ^ k = 0 := Nat.div_eq_of_lt (Nat.lt_of_lt_of_le hP (by have := Nat.pow_le_pow_right (show 0 < 2 by omega) hk; omega))
    rw [this] at z2
    omega
/-- the condition at a point -/
def am_at (P : Nat) (N Kd Bd : Nat → Int) (x y z : Int) : Prop := P = 1 → (Kd 0 ≠ 2 → N 0 * x + N 1 * y + N 2 * z ≤ Bd 0) ∧ (Kd 0 ≠ 0 → Bd 0 ≤ N 0 * x + N 1 * y + N 2 * z)
theorem am_thirds {post : Int32 → St2 → Prop} {P : Nat} {N Kd Bd : Nat → Int} {x y : Nat} (hP : P < 2) (hN : am_s7 N) (hk : Kd 0 = 0 ∨ Kd 0 = 1 ∨ Kd 0 = 2) (hB : (Bd 0).natAbs ≤ 128) (hx : x ≤ 20) (hy : y ≤ 20)
    (h : ∀ a c : Int, am_V a → am_V c → (∀ z : Int, (a ≤ z ∧ z ≤ c) ↔ (0 ≤ z ∧ z ≤ 20 ∧ am_at P N Kd Bd x y z)) → post (am_I (if c < a then 0 else c - a + 1)) (nI P, wo_, ro_, tu_, un_, co_, fw_, wc_, wt_, wb_, li_, em_, hh_, ht_, hb_, hl_, lt_, lb_, br_, am_I a, am_I c, am_if N, am_if Kd, am_if Bd, a4, a5, a6, a7, a8, a9, a10, a11, a12, a13, a14, a15, a16, a17, a18, a19)) :
    wpX_thirds post (nI P, wo_, ro_, tu_, un_, co_, fw_, wc_, wt_, wb_, li_, em_, hh_, ht_, hb_, hl_, lt_, lb_, br_, l3_, g3_, am_if N, am_if Kd, am_if Bd, a4, a5, a6, a7, a8, a9, a10, a11, a12, a13, a14, a15, a16, a17, a18, a19) (nI x) (nI y) := by
  have bK : am_V (Kd 0) := by unfold am_V; omega
  have b2 : am_V 2 := by unfold am_V; omega
  have b0 : am_V 0 := by unfold am_V; omega
  unfold wpX_thirds
  refine ⟨6, ?_⟩
  refine pk_le 5 0 (fun z => absurd z (by omega)) (fun _ => ?_)
  have last : ∀ a c : Int, 0 ≤ a → a ≤ 20000 → c.natAbs ≤ 20000 → (∀ z : Int, (a ≤ z ∧ z ≤ c) ↔ (0 ≤ z ∧ z ≤ 20 ∧ am_at P N Kd Bd x y z)) → wX_thirds_13 post (nI x) (nI y) 5 (nI (0 + 1)) (nI P) wo_ ro_ tu_ un_ co_ fw_ wc_ wt_ wb_ li_ em_ hh_ ht_ hb_ hl_ lt_ lb_ br_ (am_I a) (am_I c) (am_if N) (am_if Kd) (am_if Bd) a4 a5 a6 a7 a8 a9 a10 a11 a12 a13 a14 a15 a16 a17 a18 a19 := by
    intro a c ha hab hc hz
    have va : am_V a := by unfold am_V; omega
    have vc : am_V c := by unfold am_V; omega
    exact am_th13 hP (by omega) (by omega) va vc (h a c va vc hz) 5 (by omega)
  refine am_has (k := 0) (by omega) (by omega) (fun z => br_t rfl (nm_r (nI_1 0) (last 0 20 (by omega) (by omega) (by omega) (fun z2 => ?_)))) (fun z => br_f (by decide) ?_)
  · have : P ≠ 1 := by intro e; subst e; exact absurd z (by decide)
    exact ⟨fun q => ⟨q.1, q.2, fun e => absurd e this⟩, fun q => ⟨q.1, q.2.1⟩⟩
  have hP1 : P = 1 := by rw [Nat.pow_zero, Nat.div_one] at z; omega
  have n0 := am_bm (hN 0 (by omega)) (show (x : Int).natAbs ≤ 20 by omega)
  have n1 := am_bm (hN 1 (by omega)) (show (y : Int).natAbs ≤ 20 by omega)
  have n2 := hN 2 (by omega)
  refine ⟨pk_in 2 15 (by omega) rfl, nm_r (e' := am_I (N 2)) rfl ⟨pk_in 0 5 (by omega) rfl, pk_in 0 15 (by omega) rfl, pk_in 1 15 (by omega) rfl, nm_r (e' := am_I (Bd 0 - N 0 * x - N 1 * y)) ?_ ⟨pk_in 0 5 (by omega) rfl, ?_⟩⟩⟩
  · show am_I (Bd 0) - am_I (N 0) * nI x - am_I (N 1) * nI y = _
    rw [am_nI x, am_nI y, am_Imul, am_Imul, am_Isub, am_Isub]
  have rb : (Bd 0 - N 0 * (x : Int) - N 1 * (y : Int)).natAbs ≤ 10000 := by omega
  generalize hrr : Bd 0 - N 0 * (x : Int) - N 1 * (y : Int) = r at rb
  have atz : ∀ z2 : Int, am_at P N Kd Bd x y z2 ↔ ((Kd 0 ≠ 2 → N 2 * z2 ≤ r) ∧ (Kd 0 ≠ 0 → -(N 2) * z2 ≤ -r)) := by
    intro z2
    have e : -(N 2) * z2 = -(N 2 * z2) := by grind
    rw [e]
    constructor
    · intro q
      obtain ⟨q1, q2⟩ := q hP1
      exact ⟨fun k => by have := q1 k; omega, fun k => by have := q2 k; omega⟩
    · rintro ⟨q1, q2⟩ _
      exact ⟨fun k => by have := q1 k; omega, fun k => by have := q2 k; omega⟩
  have sec : ∀ a c : Int, 0 ≤ a → a ≤ 20000 → c.natAbs ≤ 20000 → (∀ z : Int, (a ≤ z ∧ z ≤ c) ↔ (0 ≤ z ∧ z ≤ 20 ∧ (Kd 0 ≠ 2 → N 2 * z ≤ r))) → wX_thirds_88 post (wX_thirds_13 post (nI x) (nI y) 5) (nI x) (nI y) (nI 0) (am_I (N 2)) (am_I r) (nI P) wo_ ro_ tu_ un_ co_ fw_ wc_ wt_ wb_ li_ em_ hh_ ht_ hb_ hl_ lt_ lb_ br_ (am_I a) (am_I c) (am_if N) (am_if Kd) (am_if Bd) a4 a5 a6 a7 a8 a9 a10 a11 a12 a13 a14 a15 a16 a17 a18 a19 := by
    intro a c ha hab hc hz
    unfold wX_thirds_88
    refine ⟨pk_in 0 5 (by omega), am_ieq (Kd 0) 0 bK b0 (fun k => nm_r (nI_1 0) (last a c ha hab hc (fun z2 => ?_))) (fun k => ?_)⟩
    · rw [hz z2, atz z2]
      exact ⟨fun q => ⟨q.1, q.2.1, q.2.2, fun k2 => absurd k k2⟩, fun q => ⟨q.1, q.2.1, q.2.2.1⟩⟩
    · rw [am_Ineg, am_Ineg]
      refine am_narrow (by omega) (by omega) ha hab hc (fun a' c' ha' hab' hc' hz' => nm_r (nI_1 0) (last a' c' ha' hab' hc' (fun z2 => ?_)))
      rw [hz' z2, atz z2]
      have := hz z2
      constructor
      · intro q
        have q2 := this.mp ⟨q.1, q.2.1⟩
        exact ⟨q2.1, q2.2.1, q2.2.2, fun _ => q.2.2⟩
      · intro q
        have q2 := this.mpr ⟨q.1, q.2.1, q.2.2.1⟩
        exact ⟨q2.1, q2.2, q.2.2.2 k⟩
  refine am_ieq (Kd 0) 2 bK b2 (fun k => sec 0 20 (by omega) (by omega) (by omega) (fun z2 => ?_)) (fun k => ?_)
  · exact ⟨fun q => ⟨q.1, q.2, fun k2 => absurd k k2⟩, fun q => ⟨q.1, q.2.1⟩⟩
  · refine am_narrow (a := 0) (c := 20) n2 rb (by omega) (by omega) (by omega) (fun a' c' ha' hab' hc' hz' => sec a' c' ha' hab' hc' (fun z2 => ?_))
    rw [hz' z2]
    exact ⟨fun q => ⟨q.1, q.2.1, fun _ => q.2.2⟩, fun q => ⟨q.1, q.2.1, q.2.2 k⟩⟩
end
end
section
theorem am_nnk {P : Nat} {N Kd Bd : Nat → Int} (hk : Kd 0 = 0 ∨ Kd 0 = 1 ∨ Kd 0 = 2) : am_nn' P N Kd Bd ↔ (P = 1 ∧ ((Kd 0 ≠ 2 ∧ Bd 0 < am_least N) ∨ (Kd 0 ≠ 0 ∧ am_most N < Bd 0))) := by
  unfold am_nn' am_none
  by_cases e : P = 1
  · have m1 : am_cm P Kd = if Kd 0 = 1 then 2 else 1 := by unfold am_cm am_mk; rw [if_pos (by simp; exact e)]
    rw [m1]
    rcases hk with k | k | k
    · have g : ∀ j, j < 3 → am_cg (Kd 0) N j = N j := fun j _ => by unfold am_cg am_sgn; rw [if_neg (by omega), if_pos rfl]; omega
      have s : am_sgn (Kd 0) 0 = 1 := by unfold am_sgn; rw [if_neg (by omega), if_pos rfl]
      rw [if_neg (by omega), s, (am_mp g).2, (am_mp g).1]
      constructor
      · rintro (⟨_, b⟩ | ⟨b, _⟩)
        · exact ⟨e, Or.inl ⟨by omega, by omega⟩⟩
        · omega
      · rintro ⟨_, ⟨_, b⟩ | ⟨b, _⟩⟩
        · exact Or.inl ⟨by omega, by omega⟩
        · exact absurd k b
    · have g : ∀ j, j < 3 → am_cg (Kd 0) N j = N j := fun j _ => by unfold am_cg am_sgn; rw [if_neg (by omega), if_pos rfl]; omega
      have s : am_sgn (Kd 0) 0 = 1 := by unfold am_sgn; rw [if_neg (by omega), if_pos rfl]
      rw [if_pos k, s, (am_mp g).2, (am_mp g).1]
      constructor
      · rintro (⟨_, b⟩ | ⟨_, b⟩)
        · exact ⟨e, Or.inl ⟨by omega, by omega⟩⟩
        · exact ⟨e, Or.inr ⟨by omega, by omega⟩⟩
      · rintro ⟨_, ⟨_, b⟩ | ⟨_, b⟩⟩
        · exact Or.inl ⟨by omega, by omega⟩
        · exact Or.inr ⟨rfl, by omega⟩
    · have g : ∀ j, j < 3 → am_cg (Kd 0) N j = -(N j) := fun j _ => by unfold am_cg am_sgn; rw [if_pos k]; omega
      have s : am_sgn (Kd 0) 0 = -1 := by unfold am_sgn; rw [if_pos k]
      rw [if_neg (by omega), s, am_lm g, am_mn g]
      constructor
      · rintro (⟨_, b⟩ | ⟨b, _⟩)
        · exact ⟨e, Or.inr ⟨by omega, by omega⟩⟩
        · omega
      · rintro ⟨_, ⟨b, _⟩ | ⟨_, b⟩⟩
        · exact absurd k b
        · exact Or.inl ⟨by omega, by omega⟩
  · have m0 : am_cm P Kd = 0 := by unfold am_cm am_mk; rw [if_neg (by simp; exact e)]
    rw [m0]
    constructor
    · rintro (⟨b, _⟩ | ⟨b, _⟩) <;> omega
    · rintro ⟨b, _⟩
      exact absurd b e
theorem am_ptb {N : Nat → Int} {x y z : Int} (hx : 0 ≤ x ∧ x ≤ 20) (hy : 0 ≤ y ∧ y ≤ 20) (hz : 0 ≤ z ∧ z ≤ 20) : am_least N ≤ N 0 * x + N 1 * y + N 2 * z ∧ N 0 * x + N 1 * y + N 2 * z ≤ am_most N := by
  have b := am_box (o := N) (u := 1) (X := fun i => if i = 0 then x else if i = 1 then y else z) (fun i _ => by
    split
    · omega
    · split <;> omega)
  have e : am_d3 N (fun i => if i = 0 then x else if i = 1 then y else z) = N 0 * x + N 1 * y + N 2 * z := by simp [am_d3]
  rw [e] at b
  omega
theorem am_noAt {P : Nat} {N Kd Bd : Nat → Int} {x y z : Int} (hk : Kd 0 = 0 ∨ Kd 0 = 1 ∨ Kd 0 = 2) (h : am_nn' P N Kd Bd) (hx : 0 ≤ x ∧ x ≤ 20) (hy : 0 ≤ y ∧ y ≤ 20) (hz : 0 ≤ z ∧ z ≤ 20) : ¬ am_at P N Kd Bd x y z := by
  obtain ⟨e, hn⟩ := (am_nnk hk).mp h
  intro ha
  obtain ⟨a1, a2⟩ := ha e
  have b := am_ptb (N := N) hx hy hz
  rcases hn with ⟨k, q⟩ | ⟨k, q⟩
  · have := a1 k; omega
  · have := a2 k; omega
theorem am_alAt {P : Nat} {N Kd Bd : Nat → Int} {x y z : Int} (h : P = 0 ∨ am_id P N Kd Bd) (hx : 0 ≤ x ∧ x ≤ 20) (hy : 0 ≤ y ∧ y ≤ 20) (hz : 0 ≤ z ∧ z ≤ 20) : am_at P N Kd Bd x y z := by
  intro e
  rcases h with h | ⟨_, h1, h2⟩
  · omega
  · have b := am_ptb (N := N) hx hy hz
    refine ⟨fun k => ?_, fun k => ?_⟩
    · rcases h1 with y | y
      · exact absurd y k
      · omega
    · rcases h2 with y | y
      · exact absurd y k
      · omega
theorem am_wholes {post : Int32 → St2 → Prop} {P : Nat} {N Kd Bd Gd : Nat → Int} {s : St2} (hc : am_cf P N Kd Bd Gd) (hs : am_St P N Kd Bd Gd s)
    (h : ∀ r s, am_St P N Kd Bd Gd s → (am_nn' P N Kd Bd → r = 0) → ((P = 0 ∨ am_id P N Kd Bd) → r = 9261) → post r s) : wpX_wholes post s := by
  obtain ⟨x, y, tp, w, rows, t, cc, ff, ww, n, u, lo, hv, As, R, Q, T, rn, cn, L, em, hh, hl, br, l3, g3, ht, hb, lt, lb, b18, b19, rfl⟩ := hs
  obtain ⟨hP, hN, hG, hk, hB, hNG⟩ := hc
  unfold wpX_wholes
  refine am_askWhole (fun lo hv hlo hhv => ?_)
  refine pk_loop (fun f i (s : Int32 × Int32 × Int32) => wX_wholes_8 post f s.1 (nI i) (nI P) (am_I (-1)) (nI rows) (nI t) (am_L u) (nI cc) (nI ff) (nI ww) x y (nI n) em hh ht hb hl lt lb br s.2.1 s.2.2 (am_if N) (am_if Kd) (am_if Bd) (am_if Gd) (am_if lo) (am_if hv) (am_if As) (am_if R) (am_if Q) (am_lf T) (am_nf rn) (am_nf cn) (am_lf tp) (am_lf (L 0)) (am_lf (L 1)) (am_lf (L 2)) (am_lf (L 3)) b18 b19) (fun i s => (am_nn' P N Kd Bd → s.1 = 0) ∧ ((P = 0 ∨ am_id P N Kd Bd) → s.1 = nI (441 * i))) 21 0 (0, l3, g3) (by omega) ⟨fun _ => rfl, fun _ => rfl⟩ ?_ ?_
  · rintro f ⟨tot, l3, g3⟩ ⟨h1, h2⟩
    exact pk_lt 20 21 (fun _ => h tot _ ⟨_, _, _, _, _, _, _, _, _, _, _, _, _, _, _, _, _, _, _, _, _, _, _, _, _, _, _, _, _, _, _, _, rfl⟩ h1 (fun q => h2 q)) (fun z => absurd z (by omega))
  · rintro f i ⟨tot, l3, g3⟩ hi ⟨h1, h2⟩ hw
    replace h1 : am_nn' P N Kd Bd → tot = 0 := h1
    replace h2 : (P = 0 ∨ am_id P N Kd Bd) → tot = nI (441 * i) := h2
    refine pk_lt 20 i (fun z => absurd z (by omega)) (fun _ => ?_)
    refine pk_loop (fun f2 j (s : Int32 × Int32 × Int32) => wX_wholes_16 post (wX_wholes_8 post f) (nI i) f2 s.1 (nI j) (nI P) (am_I (-1)) (nI rows) (nI t) (am_L u) (nI cc) (nI ff) (nI ww) x y (nI n) em hh ht hb hl lt lb br s.2.1 s.2.2 (am_if N) (am_if Kd) (am_if Bd) (am_if Gd) (am_if lo) (am_if hv) (am_if As) (am_if R) (am_if Q) (am_lf T) (am_nf rn) (am_nf cn) (am_lf tp) (am_lf (L 0)) (am_lf (L 1)) (am_lf (L 2)) (am_lf (L 3)) b18 b19) (fun j s => (am_nn' P N Kd Bd → s.1 = 0) ∧ ((P = 0 ∨ am_id P N Kd Bd) → s.1 = nI (441 * i + 21 * j))) 21 0 (tot, l3, g3) (by omega) ⟨h1, h2⟩ ?_ ?_
    · rintro f2 ⟨tot, l3, g3⟩ ⟨h1, h2⟩
      refine pk_lt 20 21 (fun _ => nm_r (nI_1 i) (hw (tot, l3, g3) ⟨h1, fun q => ?_⟩)) (fun z => absurd z (by omega))
      have := h2 q
      rw [show 441 * (i + 1) = 441 * i + 21 * 21 by omega]
      exact this
    · rintro f2 j ⟨tot, l3, g3⟩ hj ⟨h1, h2⟩ hw2
      replace h1 : am_nn' P N Kd Bd → tot = 0 := h1
      replace h2 : (P = 0 ∨ am_id P N Kd Bd) → tot = nI (441 * i + 21 * j) := h2
      refine pk_lt 20 j (fun z => absurd z (by omega)) (fun _ => ?_)
      refine am_thirds hP hN hk hB (by omega) (by omega) (fun a c va vc hz => nm_e (nm_r (nI_1 j) (hw2 (_, am_I a, am_I c) ⟨fun q => ?_, fun q => ?_⟩)))
      · show tot + _ = 0
        have ca : c < a := by
          rcases Int.lt_or_le c a with y | y
          · exact y
          · exfalso
            obtain ⟨z1, z2, z3⟩ := (hz a).mp ⟨by omega, y⟩
            exact am_noAt hk q (by omega) (by omega) ⟨z1, z2⟩ z3
        rw [if_pos ca, h1 q]; rfl
      · show tot + _ = nI (441 * i + 21 * (j + 1))
        have i0 := (hz 0).mpr ⟨by omega, by omega, am_alAt q (by omega) (by omega) (by omega)⟩
        have i20 := (hz 20).mpr ⟨by omega, by omega, am_alAt q (by omega) (by omega) (by omega)⟩
        have a0 : a = 0 := by
          rcases Int.lt_or_le a 0 with y | y
          · have := (hz (-1)).mp ⟨by omega, by omega⟩
            omega
          · omega
        have c20 : c = 20 := by
          rcases Int.lt_or_le 20 c with y | y
          · have := (hz 21).mp ⟨by omega, by omega⟩
            omega
          · omega
        rw [a0, c20, if_neg (by omega), h2 q]
        have : am_I (20 - 0 + 1) = nI 21 := rfl
        rw [this, nI_add, show 441 * i + 21 * j + 21 = 441 * i + 21 * (j + 1) by omega]
/-! numbers that are written as one -/
def am_dg (w i : Nat) : Int := ((w / 15 ^ i % 15 : Nat) : Int) - 7
theorem am_dg7 (w i : Nat) : (am_dg w i).natAbs ≤ 7 := by
  have := Nat.mod_lt (w / 15 ^ i) (show 0 < 15 by omega)
  unfold am_dg; omega
theorem am_m7 (n : Nat) : nI n - 7 = am_I ((n : Int) - 7) := by
  rw [am_nI, show (7 : Int32) = am_I 7 from rfl, am_Isub]
theorem am_numberOf {post : Int32 → Prop} {w i : Nat} (hw : w < 3375) (hi : i < 3) (h : post (am_I (am_dg w i))) : wpX_numberOf post () (nI w) (nI i) := by
  have d1 : nI w / 15 = nI (w / 15) := pk_div (a := w) (d := 15) (by omega) (by omega) (by omega)
  have d2 : nI w / 225 = nI (w / 225) := pk_div (a := w) (d := 225) (by omega) (by omega) (by omega)
  have r0 : nI w - nI w / 15 * 15 = nI (w % 15) := pk_rem (a := w) (d := 15) (by omega) (by omega) (by omega)
  have r1 : nI (w / 15) - nI (w / 15) / 15 * 15 = nI (w / 15 % 15) := pk_rem (a := w / 15) (d := 15) (by omega) (by omega) (by omega)
  have r2 : nI (w / 225) - nI (w / 225) / 15 * 15 = nI (w / 225 % 15) := pk_rem (a := w / 225) (d := 15) (by omega) (by omega) (by omega)
  unfold am_dg at h
  unfold wpX_numberOf
  refine pk_eq i 0 (fun z => ⟨by decide, ?_⟩) (fun z => pk_eq i 1 (fun z2 => ⟨by decide, nm_r d1 ⟨by decide, ?_⟩⟩) (fun z2 => ⟨by decide, nm_r d2 ⟨by decide, ?_⟩⟩))
  · subst z
    rw [r0, am_m7]
    rw [Nat.pow_zero, Nat.div_one] at h
    exact h
  · subst z2
    rw [r1, am_m7]
    exact h
  · have e : i = 2 := by omega
    subst e
    rw [r2, am_m7]
    exact h
theorem am_exI (x : Int32) : x = am_I x.toInt := (Int32.ofInt_toInt x).symm
section
variable {pr_ wo_ ro_ tu_ co_ fw_ wc_ li_ em_ hh_ hl_ br_ l3_ g3_ : Int32} {un_ wt_ wb_ ht_ hb_ lt_ lb_ : Int64} {a1 a2 a3 a4 a5 a6 a7 a8 a9 a11 a12 a18 a19 : Nat → Int32} {a10 a13 a14 a15 a16 a17 : Nat → Int64}
theorem am_add {post : Int32 → St2 → Prop} {w k : Nat} {B : Int} {N0 K0 B0 : Nat → Int} (hw : w < 3375) (hk : k ≤ 2) (hB1 : -99 ≤ B) (hB2 : B ≤ 99)
    (h : ∀ N, (∀ i, i < 3 → N i = am_dg w i) → post 0 (nI 1, wo_, ro_, tu_, un_, co_, fw_, wc_, wt_, wb_, li_, em_, hh_, ht_, hb_, hl_, lt_, lb_, br_, l3_, g3_, am_if N, am_if (am_up K0 0 (k : Int)), am_if (am_up B0 0 B), a4, a5, a6, a7, a8, a9, a10, a11, a12, a13, a14, a15, a16, a17, a18, a19)) : wpX_add post (nI 0, wo_, ro_, tu_, un_, co_, fw_, wc_, wt_, wb_, li_, em_, hh_, ht_, hb_, hl_, lt_, lb_, br_, l3_, g3_, am_if N0, am_if K0, am_if B0, a4, a5, a6, a7, a8, a9, a10, a11, a12, a13, a14, a15, a16, a17, a18, a19) (nI w) (nI k) (am_I B) := by
  unfold wpX_add
  refine br_f (nI_pos (by omega)) (pk_le 3375 w (fun z => absurd z (by omega)) (fun _ => br_f (nI_pos (by omega)) (pk_lt 2 k (fun z => absurd z (by omega)) (fun _ => ?_))))
  refine am_ilt B (-99) (by unfold am_V; omega) (by unfold am_V; omega) (fun z => absurd z (by omega)) (fun _ => am_ile B 99 (by unfold am_V; omega) (by unfold am_V; omega) (fun _ => ⟨1, ?_⟩) (fun z => absurd z (by omega)))
  refine pk_le 5 0 (fun z => absurd z (by omega)) (fun _ => ?_)
  refine am_has (P := 0) (k := 0) (by omega) (by omega) (fun _ => br_t rfl (nm_r (e' := nI 1) (by decide) ⟨pk_in 0 5 (by omega), nm_r (e' := am_if (am_up K0 0 (k : Int))) ?_ ⟨pk_in 0 5 (by omega), nm_r (e' := am_if (am_up B0 0 B)) ?_ ?_⟩⟩)) (fun z => absurd z (by decide))
  · rw [am_nI k, am_byte (by omega) (by omega)]
    exact am_uI K0 0 (k : Int)
  · rw [am_byte (by omega) (by omega)]
    exact am_uI B0 0 B
  · refine pk_loop (fun f i (N : Nat → Int) => wX_add_87 post (nI w) (nI 0) (nI 1) wo_ ro_ tu_ un_ co_ fw_ wc_ wt_ wb_ li_ em_ hh_ ht_ hb_ hl_ lt_ lb_ br_ l3_ g3_ f (nI i) (am_if N) (am_if (am_up K0 0 (k : Int))) (am_if (am_up B0 0 B)) a4 a5 a6 a7 a8 a9 a10 a11 a12 a13 a14 a15 a16 a17 a18 a19) (fun i N => ∀ i', i' < i → N i' = am_dg w i') 3 0 N0 (by omega) (fun _ z => absurd z (by omega)) ?_ ?_
    · intro f N hI
      exact pk_le 3 3 (fun _ => h N hI) (fun z => absurd z (by omega))
    · intro f i N hi hI hn
      have d7 := am_dg7 w i
      refine pk_le 3 i (fun z => absurd z (by omega)) (fun _ => am_numberOf hw hi ⟨pk_in (0 * 3 + i) 15 (by omega) (am_ix3 0 i), nm_r (e' := am_if (am_up N i (am_dg w i))) ?_ (nm_r (nI_1 i) (hn _ (fun i' hi' => ?_)))⟩)
      · rw [pk_cl (0 * 3 + i) (am_ix3 0 i), Nat.zero_mul, Nat.zero_add, am_byte (by omega) (by omega), am_uI]
      · by_cases e : i' = i
        · rw [e, am_ups]
        · rw [am_upn _ _ e]; exact hI i' (by omega)
theorem am_goal {post : Int32 → St2 → Prop} {w : Nat} {G0 : Nat → Int} (hw : w < 3375) (h : ∀ G, (∀ i, i < 3 → G i = am_dg w i) → post 1 (pr_, wo_, ro_, tu_, un_, co_, fw_, wc_, wt_, wb_, li_, em_, hh_, ht_, hb_, hl_, lt_, lb_, br_, l3_, g3_, a1, a2, a3, am_if G, a5, a6, a7, a8, a9, a10, a11, a12, a13, a14, a15, a16, a17, a18, a19)) : wpX_goal post (pr_, wo_, ro_, tu_, un_, co_, fw_, wc_, wt_, wb_, li_, em_, hh_, ht_, hb_, hl_, lt_, lb_, br_, l3_, g3_, a1, a2, a3, am_if G0, a5, a6, a7, a8, a9, a10, a11, a12, a13, a14, a15, a16, a17, a18, a19) (nI w) := by
  unfold wpX_goal
  refine br_f (nI_pos (by omega)) (pk_lt w 3375 (fun _ => ?_) (fun z => absurd z (by omega)))
  refine pk_loop (fun f i (G : Nat → Int) => wX_goal_15 post (nI w) pr_ wo_ ro_ tu_ un_ co_ fw_ wc_ wt_ wb_ li_ em_ hh_ ht_ hb_ hl_ lt_ lb_ br_ l3_ g3_ f (nI i) a1 a2 a3 (am_if G) a5 a6 a7 a8 a9 a10 a11 a12 a13 a14 a15 a16 a17 a18 a19) (fun i G => ∀ i', i' < i → G i' = am_dg w i') 3 0 G0 (by omega) (fun _ z => absurd z (by omega)) ?_ ?_
  · intro f G hI
    exact pk_le 3 3 (fun _ => h G hI) (fun z => absurd z (by omega))
  · intro f i G hi hI hn
    have d7 := am_dg7 w i
    refine pk_le 3 i (fun z => absurd z (by omega)) (fun _ => am_numberOf hw hi ⟨pk_in i 3 hi, nm_r (e' := am_if (am_up G i (am_dg w i))) ?_ (nm_r (nI_1 i) (hn _ (fun i' hi' => ?_)))⟩)
    · rw [nI_clamp (by omega), am_byte (by omega) (by omega), am_uI]
    · by_cases e : i' = i
      · rw [e, am_ups]
      · rw [am_upn _ _ e]; exact hI i' (by omega)
end
end
section
theorem am_psb {A : Int32 → Prop} {p : Int} (hp : am_V p) (h : A (am_I (am_ps p))) : (am_I p ≤ 0 → A 0) ∧ (¬ am_I p ≤ 0 → A (am_I p)) := by
  refine am_ile p 0 hp (by unfold am_V; omega) (fun z => ?_) (fun z => ?_)
  · have : am_ps p = 0 := by unfold am_ps; rw [if_neg (by omega)]
    rw [this] at h; exact h
  · have : am_ps p = p := by unfold am_ps; rw [if_pos z]
    rw [this] at h; exact h
theorem am_ngb {A : Int32 → Prop} {p : Int} (hp : am_V p) (h : A (am_I (am_ng p))) : (0 ≤ am_I p → A 0) ∧ (¬ 0 ≤ am_I p → A (am_I p)) := by
  refine am_ile 0 p (by unfold am_V; omega) hp (fun z => ?_) (fun z => ?_)
  · have : am_ng p = 0 := by unfold am_ng; rw [if_neg (by omega)]
    rw [this] at h; exact h
  · have : am_ng p = p := by unfold am_ng; rw [if_pos z]
    rw [this] at h; exact h
theorem am_dueU {P : Nat} {N Kd Bd Gd : Nat → Int} {V : Int} (hc : am_cf P N Kd Bd Gd) (hn : ¬ am_nn' P N Kd Bd) (h : am_dd P N Kd Bd Gd V) : V = if P = 1 ∧ Kd 0 ≠ 2 ∧ Bd 0 < am_most Gd then Bd 0 else am_most Gd := by
  obtain ⟨hP, hN, hG, hk, hB, hNG⟩ := hc
  rw [am_nnk hk] at hn
  have zero : (∀ j, j < 3 → Gd j = 0) → am_most Gd = 0 ∧ am_least Gd = 0 := by
    intro z
    unfold am_most am_least
    rw [z 0 (by omega), z 1 (by omega), z 2 (by omega)]
    exact ⟨rfl, rfl⟩
  by_cases e : P = 1
  · have en := hNG e
    have ne := am_mp en
    have m1 : am_cm P Kd = if Kd 0 = 1 then 2 else 1 := by unfold am_cm am_mk; rw [if_pos (by simp; exact e)]
    have nn : ¬ ((Kd 0 ≠ 2 ∧ Bd 0 < am_least N) ∨ (Kd 0 ≠ 0 ∧ am_most N < Bd 0)) := fun q => hn ⟨e, q⟩
    by_cases k2 : Kd 0 = 2
    · rw [if_neg (fun q => q.2.1 k2)]
      have s : am_sgn (Kd 0) 0 = -1 := by unfold am_sgn; rw [if_pos k2]
      have nB : Bd 0 ≤ am_most Gd := by
        rcases Int.lt_or_le (am_most Gd) (Bd 0) with y | y
        · exact absurd (Or.inr ⟨by omega, by omega⟩) nn
        · exact y
      rcases h with ⟨_, q⟩ | ⟨_, q2, q⟩ | ⟨_, _, q⟩
      · exact q
      · have z : ∀ j, j < 3 → Gd j = 0 := fun j hj => by
          have := q2 j hj
          unfold am_cg at this
          rw [s, en j hj] at this
          omega
        have := zero z
        rw [s] at q
        split at q <;> omega
      · exact q
    · have s : am_sgn (Kd 0) 0 = 1 := by unfold am_sgn; rw [if_neg k2, if_pos rfl]
      have nB : am_least Gd ≤ Bd 0 := by
        rcases Int.lt_or_le (Bd 0) (am_least Gd) with y | y
        · exact absurd (Or.inl ⟨k2, by omega⟩) nn
        · exact y
      rcases h with ⟨q0, _⟩ | ⟨_, _, q⟩ | ⟨_, q2, q⟩
      · rw [m1] at q0
        split at q0 <;> omega
      · rw [s, Int.one_mul] at q
        by_cases c : Bd 0 < am_most Gd
        · rw [if_pos c] at q; rw [if_pos ⟨e, k2, c⟩]; exact q
        · rw [if_neg c] at q; rw [if_neg (fun y => c y.2.2)]; exact q
      · have z : ∀ j, j < 3 → Gd j = 0 := fun j hj => by
          have := q2 j hj
          unfold am_cg at this
          rw [s, en j hj] at this
          omega
        have := zero z
        rw [if_neg (fun y => by omega)]
        exact q
  · rw [if_neg (fun q => e q.1)]
    have m0 : am_cm P Kd = 0 := by unfold am_cm am_mk; rw [if_neg (by simp; exact e)]
    rcases h with ⟨_, q⟩ | ⟨q0, _⟩ | ⟨q0, _⟩
    · exact q
    · omega
    · omega
section
variable {post : Int32 → St0 → Prop} {mc ms kc ks : Nat} {x0 x1 x2 x3 x4 x5 x7 x8 x9 x10 x11 x12 x13 x14 x15 x20 x21 x22 x23 x24 x25 : Int32}
theorem am_l492 (hp : post 1 ()) (hr0 : x25 = 0 → x11 = -10000000) (hr1 : ¬ x25 = 0 → (x22 = 1 ∧ x11 = -30000000) ∨ (x22 = 0 ∧ ¬ x11 = -30000000)) (hid : x12 = x23) : wL_lawOf_492 post mc ms x11 x12 x22 x23 x25 kc ks := by
  have e : wL_lawOf_524 post mc ms x12 x23 kc ks := br_t hid hp
  unfold wL_lawOf_492 wL_lawOf_511
  refine br_c (fun z => br_t (hr0 z) e) (fun z => ?_)
  rcases hr1 z with ⟨a, b⟩ | ⟨a, b⟩
  · exact br_t b (br_t a e)
  · exact br_f b (br_t a e)
theorem am_l424 (hp : post 1 ()) (hset : x8 = x13) (htop : x9 = if x15 = 0 then -10000000 else if x22 = 0 then x24 else -30000000) (hw0 : ¬ x22 = 0 → x10 = 0) (hw1 : x22 = 0 → (¬ x23 = 0 ∨ x14 = 0) → x10 = 9261)
    (hr0 : x25 = 0 → x11 = -10000000) (hr1 : ¬ x25 = 0 → (x22 = 1 ∧ x11 = -30000000) ∨ (x22 = 0 ∧ ¬ x11 = -30000000)) (hid : x12 = x23) {z1 z0 : Int32} (hz : z1 = z0) : wL_lawOf_424 post mc ms x8 x9 x10 x11 x12 x13 x14 x15 x22 x23 x24 x25 z0 z1 kc ks := by
  have e := am_l492 (post := post) (mc := mc) (ms := ms) (kc := kc) (ks := ks) hp hr0 hr1 hid
  have f : ∀ z, x9 = z → wL_lawOf_458 post mc ms x10 x11 x12 x14 x22 x23 x25 z x9 kc ks := by
    intro z hz
    unfold wL_lawOf_458 wL_lawOf_484
    refine br_t hz (br_c (fun q => br_c (fun q2 => br_c (fun q3 => br_t (hw1 q (Or.inr q3)) e) (fun _ => e)) (fun q2 => br_t (hw1 q (Or.inl q2)) e)) (fun q => br_t (hw0 q) e))
  unfold wL_lawOf_424
  refine br_t hz (br_t hset (br_c (fun q => f _ ?_) (fun q => br_c (fun q2 => f _ ?_) (fun q2 => f _ ?_))))
  · rw [if_pos q] at htop; exact htop
  · rw [if_neg q, if_pos q2] at htop; exact htop
  · rw [if_neg q, if_neg q2] at htop; exact htop
/-- which answers can be read -/
theorem am_l380 (hp : post 1 ()) (hgot : x7 = if x14 = 0 then -10000000 else 0) (hset : x8 = x13) (htop : x9 = if x15 = 0 then -10000000 else if x22 = 0 then x24 else -30000000) (hw0 : ¬ x22 = 0 → x10 = 0) (hw1 : x22 = 0 → (¬ x23 = 0 ∨ x14 = 0) → x10 = 9261)
    (hr0 : (x4 < 0 ∨ 2 < x4 ∨ (¬ x5 = 0 ∧ ¬ x5 = 1)) → x11 = -10000000) (hr1 : ¬ x4 < 0 → ¬ 2 < x4 → (x5 = 0 ∨ x5 = 1) → (x22 = 1 ∧ x11 = -30000000) ∨ (x22 = 0 ∧ ¬ x11 = -30000000)) (hid : x12 = x23) :
    wL_lawOf_380 post mc ms x4 x5 x7 x8 x9 x10 x11 x12 x13 x14 x15 x22 x23 x24 kc ks := by
  have go : ∀ z : Int32, (z = 0 → x11 = -10000000) → (¬ z = 0 → (x22 = 1 ∧ x11 = -30000000) ∨ (x22 = 0 ∧ ¬ x11 = -30000000)) → wL_lawOf_409 post mc ms x7 x8 x9 x10 x11 x12 x13 x14 x15 x22 x23 x24 z kc ks := by
    intro z g0 g1
    unfold wL_lawOf_409
    refine br_c (fun q => ?_) (fun q => ?_)
    · rw [if_pos q] at hgot
      exact am_l424 hp hset htop hw0 hw1 g0 g1 hid hgot
    · rw [if_neg q] at hgot
      exact am_l424 hp hset htop hw0 hw1 g0 g1 hid hgot
  have no : (x4 < 0 ∨ 2 < x4 ∨ (¬ x5 = 0 ∧ ¬ x5 = 1)) → wL_lawOf_408 post mc ms x7 x8 x9 x10 x11 x12 x13 x14 x15 x22 x23 x24 kc ks := fun q => go 0 (fun _ => hr0 q) (fun z => absurd rfl z)
  have yes : ¬ x4 < 0 → ¬ 2 < x4 → (x5 = 0 ∨ x5 = 1) → wL_lawOf_404 post mc ms x7 x8 x9 x10 x11 x12 x13 x14 x15 x22 x23 x24 kc ks := fun q1 q2 q3 => go 1 (fun z => absurd z (by decide)) (fun _ => hr1 q1 q2 q3)
  unfold wL_lawOf_380
  exact br_c (fun q => no (Or.inl q)) (fun q => br_c (fun q2 => no (Or.inr (Or.inl q2))) (fun q2 => br_c (fun q3 => yes q q2 (Or.inl q3)) (fun q3 => br_c (fun q4 => yes q q2 (Or.inr q4)) (fun q4 => no (Or.inr (Or.inr ⟨q3, q4⟩))))))
end
/-- all that the calls have answered -/
def am_got (P : Nat) (N Kd Bd Gd : Nat → Int) (x4 x5 x7 x8 x9 x10 x11 x12 x13 x14 x15 : Int32) : Prop :=
  (x7 = if x14 = 0 then -10000000 else 0) ∧ x8 = x13 ∧ (x15 = 0 → x9 = -10000000) ∧ (¬ x15 = 0 → am_nn' P N Kd Bd → x9 = -30000000) ∧ (¬ x15 = 0 → ¬ am_nn' P N Kd Bd → x9 = am_I (if P = 1 ∧ Kd 0 ≠ 2 ∧ Bd 0 < am_most Gd then Bd 0 else am_most Gd)) ∧
  (am_nn' P N Kd Bd → x10 = 0) ∧ ((P = 0 ∨ am_id P N Kd Bd) → x10 = 9261) ∧ ((x4 < 0 ∨ 2 < x4 ∨ (¬ x5 = 0 ∧ ¬ x5 = 1)) → x11 = -10000000) ∧ (¬ x4 < 0 → ¬ 2 < x4 → (x5 = 0 ∨ x5 = 1) → am_nn' P N Kd Bd → x11 = -30000000) ∧ (¬ x4 < 0 → ¬ 2 < x4 → (x5 = 0 ∨ x5 = 1) → ¬ am_nn' P N Kd Bd → ¬ x11 = -30000000) ∧
  (am_id P N Kd Bd → x12 = 1) ∧ (¬ am_id P N Kd Bd → x12 = 0)
section
variable {post : Int32 → St0 → Prop} {mc ms kc ks : Nat} {x1 x2 x4 x5 x7 x8 x9 x10 x11 x12 x13 x14 x15 : Int32} {P : Nat} {N Kd Bd Gd : Nat → Int}
theorem am_l356 (hp : post 1 ()) (hc : am_cf P N Kd Bd Gd) (e14 : x14 = nI P) (e1 : P = 1 → x1 = am_I (Kd 0)) (e2 : P = 1 → x2 = am_I (Bd 0)) (hg : am_got P N Kd Bd Gd x4 x5 x7 x8 x9 x10 x11 x12 x13 x14 x15) {z22 z23 : Int32} (h22 : (z22 = 1 ∧ am_nn' P N Kd Bd) ∨ (z22 = 0 ∧ ¬ am_nn' P N Kd Bd)) (h23 : (z23 = 1 ∧ am_id P N Kd Bd) ∨ (z23 = 0 ∧ ¬ am_id P N Kd Bd)) :
    wL_lawOf_356 post mc ms x1 x2 x4 x5 x7 x8 x9 x10 x11 x12 x13 x14 x15 (am_I (am_most Gd)) z22 z23 kc ks := by
  obtain ⟨g1, g2, g3, g4, g5, g6, g7, g8, g9, g10, g11, g12⟩ := hg
  have hP := hc.1
  have hk := hc.2.2.2.1
  have hB := hc.2.2.2.2.1
  have mb := am_mb7 hc.2.2.1
  have p0 : x14 = 0 ↔ P = 0 := by rw [e14]; exact nI_eq (a := P) (b := 0) (by omega) (by omega)
  have hid : x12 = z23 := by
    rcases h23 with ⟨a, b⟩ | ⟨a, b⟩
    · rw [a]; exact g11 b
    · rw [a]; exact g12 b
  have fin : ∀ V : Int, (¬ am_nn' P N Kd Bd → V = if P = 1 ∧ Kd 0 ≠ 2 ∧ Bd 0 < am_most Gd then Bd 0 else am_most Gd) → wL_lawOf_380 post mc ms x4 x5 x7 x8 x9 x10 x11 x12 x13 x14 x15 z22 z23 (am_I V) kc ks := by
    intro V hV
    refine am_l380 hp g1 g2 ?_ (fun q => ?_) (fun q q2 => ?_) g8 (fun q1 q2 q3 => ?_) hid
    · by_cases q : x15 = 0
      · rw [if_pos q]; exact g3 q
      · rw [if_neg q]
        rcases h22 with ⟨a, b⟩ | ⟨a, b⟩
        · rw [a, if_neg (by decide)]; exact g4 q b
        · rw [a, if_pos rfl, hV b]; exact g5 q b
    · rcases h22 with ⟨a, b⟩ | ⟨a, b⟩
      · exact g6 b
      · exact absurd a q
    · refine g7 ?_
      rcases q2 with q2 | q2
      · right
        rcases h23 with ⟨a, b⟩ | ⟨a, b⟩
        · exact b
        · exact absurd a q2
      · left; exact p0.mp q2
    · rcases h22 with ⟨a, b⟩ | ⟨a, b⟩
      · exact Or.inl ⟨a, g9 q1 q2 q3 b⟩
      · exact Or.inr ⟨a, g10 q1 q2 q3 b⟩
  have top : (¬ (P = 1 ∧ Kd 0 ≠ 2 ∧ Bd 0 < am_most Gd)) → wL_lawOf_378 post mc ms x4 x5 x7 x8 x9 x10 x11 x12 x13 x14 x15 (am_I (am_most Gd)) z22 z23 kc ks := fun q => fin _ (fun _ => by rw [if_neg q])
  unfold wL_lawOf_356
  refine br_c (fun q => top (fun y => by have := p0.mp q; omega)) (fun q => ?_)
  have hP1 : P = 1 := by
    have : ¬ P = 0 := fun y => q (p0.mpr y)
    omega
  rw [e1 hP1, e2 hP1]
  refine am_ilt 1 (Kd 0) (by unfold am_V; omega) (by unfold am_V; omega) (fun q2 => top (fun y => by omega)) (fun q2 => ?_)
  refine am_ile (am_most Gd) (Bd 0) (by unfold am_V; omega) (by unfold am_V; omega) (fun q3 => top (fun y => by omega)) (fun q3 => ?_)
  exact fin (Bd 0) (fun _ => by rw [if_pos ⟨hP1, by omega, q3⟩])
theorem am_l305 (hp : post 1 ()) (hc : am_cf P N Kd Bd Gd) (e14 : x14 = nI P) (e1 : P = 1 → x1 = am_I (Kd 0)) (e2 : P = 1 → x2 = am_I (Bd 0)) (hg : am_got P N Kd Bd Gd x4 x5 x7 x8 x9 x10 x11 x12 x13 x14 x15) {z22 : Int32} (h22 : (z22 = 1 ∧ am_nn' P N Kd Bd) ∨ (z22 = 0 ∧ ¬ am_nn' P N Kd Bd)) :
    wL_lawOf_305 post mc ms x1 x2 x4 x5 x7 x8 x9 x10 x11 x12 x13 x14 x15 (am_I (am_most Gd)) (am_I (am_least Gd)) z22 kc ks := by
  have hP := hc.1
  have hk := hc.2.2.2.1
  have hB := hc.2.2.2.2.1
  have mb := am_mb7 hc.2.2.1
  have lb : (am_least Gd).natAbs ≤ 420 := by
    have := am_mb7 (o := fun i => -(Gd i)) (fun j hj => by rw [Int.natAbs_neg]; exact hc.2.2.1 j hj)
    rw [am_mn (g := fun i => -(Gd i)) (o := Gd) (fun _ _ => rfl)] at this
    omega
  have ml := am_ml0 (As := Gd)
  have p0 : x14 = 0 ↔ P = 0 := by rw [e14]; exact nI_eq (a := P) (b := 0) (by omega) (by omega)
  have no : ¬ am_id P N Kd Bd → wL_lawOf_355 post mc ms x1 x2 x4 x5 x7 x8 x9 x10 x11 x12 x13 x14 x15 (am_I (am_most Gd)) z22 kc ks := fun q => am_l356 hp hc e14 e1 e2 hg h22 (Or.inr ⟨rfl, q⟩)
  have yes : am_id P N Kd Bd → wL_lawOf_351 post mc ms x1 x2 x4 x5 x7 x8 x9 x10 x11 x12 x13 x14 x15 (am_I (am_most Gd)) z22 kc ks := fun q => am_l356 hp hc e14 e1 e2 hg h22 (Or.inl ⟨rfl, q⟩)
  unfold wL_lawOf_305
  refine br_c (fun q => no (fun y => by have := y.1; have := p0.mp q; omega)) (fun q => ?_)
  have hP1 : P = 1 := by
    have : ¬ P = 0 := fun y => q (p0.mpr y)
    omega
  have ne := am_mp (hc.2.2.2.2.2 hP1)
  have ei : am_id P N Kd Bd ↔ ((Kd 0 = 2 ∨ am_most Gd ≤ Bd 0) ∧ (Kd 0 = 0 ∨ Bd 0 ≤ am_least Gd)) := by
    unfold am_id
    rw [ne.1, ne.2]
    exact ⟨fun y => y.2, fun y => ⟨hP1, y⟩⟩
  rw [ei] at no yes
  have E1 := e1 hP1
  have E2 := e2 hP1
  have v0 : am_V 0 := by unfold am_V; omega
  have v1 : am_V 1 := by unfold am_V; omega
  have vk : am_V (Kd 0) := by unfold am_V; omega
  have vB : am_V (Bd 0) := by unfold am_V; omega
  have vm : am_V (am_most Gd) := by unfold am_V; omega
  have vl : am_V (am_least Gd) := by unfold am_V; omega
  refine am_ieq (Kd 0) 0 vk v0 (fun k => am_ilt (Bd 0) (am_most Gd) vB vm (fun q2 => no (by omega)) (fun q2 => yes (by omega)) E2 rfl) (fun k => am_ieq (Kd 0) 1 vk v1 (fun k1 => am_ieq (am_most Gd) (Bd 0) vm vB (fun q2 => am_ieq (am_least Gd) (Bd 0) vl vB (fun q3 => yes (by omega)) (fun q3 => no (by omega)) rfl E2) (fun q2 => no (by omega)) rfl E2) (fun k1 => am_ilt (am_least Gd) (Bd 0) vl vB (fun q2 => no (by omega)) (fun q2 => yes (by omega)) rfl E2) E1 rfl) E1 rfl
theorem am_l140 (hp : post 1 ()) (hc : am_cf P N Kd Bd Gd) (e14 : x14 = nI P) (e1 : P = 1 → x1 = am_I (Kd 0)) (e2 : P = 1 → x2 = am_I (Bd 0)) (hg : am_got P N Kd Bd Gd x4 x5 x7 x8 x9 x10 x11 x12 x13 x14 x15) {w : Nat} (hw : w < 3375) (hG : ∀ i, i < 3 → Gd i = am_dg w i) :
    wL_lawOf_140 post mc ms x1 x2 x4 x5 x7 x8 x9 x10 x11 x12 x13 x14 x15 (nI w) kc ks := by
  have hP := hc.1
  have hk := hc.2.2.2.1
  have hB := hc.2.2.2.2.1
  have mb := am_mb7 hc.2.2.1
  have lb : (am_least Gd).natAbs ≤ 420 := by
    have := am_mb7 (o := fun i => -(Gd i)) (fun j hj => by rw [Int.natAbs_neg]; exact hc.2.2.1 j hj)
    rw [am_mn (g := fun i => -(Gd i)) (o := Gd) (fun _ _ => rfl)] at this
    omega
  have p0 : x14 = 0 ↔ P = 0 := by rw [e14]; exact nI_eq (a := P) (b := 0) (by omega) (by omega)
  have gv : ∀ i, i < 3 → am_V (Gd i) := fun i hi => by have := hc.2.2.1 i hi; unfold am_V; omega
  have d1 : nI w / 15 = nI (w / 15) := pk_div (a := w) (d := 15) (by omega) (by omega) (by omega)
  have d2 : nI w / 225 = nI (w / 225) := pk_div (a := w) (d := 225) (by omega) (by omega) (by omega)
  have r0 : nI w - nI w / 15 * 15 = nI (w % 15) := pk_rem (a := w) (d := 15) (by omega) (by omega) (by omega)
  have r1 : nI (w / 15) - nI (w / 15) / 15 * 15 = nI (w / 15 % 15) := pk_rem (a := w / 15) (d := 15) (by omega) (by omega) (by omega)
  have g0 : Gd 0 = ((w % 15 : Nat) : Int) - 7 := by rw [hG 0 (by omega)]; unfold am_dg; rw [Nat.pow_zero, Nat.div_one]
  have g1 : Gd 1 = ((w / 15 % 15 : Nat) : Int) - 7 := hG 1 (by omega)
  have g2 : Gd 2 = ((w / 225 : Nat) : Int) - 7 := by
    rw [hG 2 (by omega)]
    unfold am_dg
    rw [show w / 15 ^ 2 % 15 = w / 225 by omega]
  unfold wL_lawOf_140
  refine ⟨by decide, nm_r (e' := am_I (Gd 0)) (by rw [r0, am_m7, g0]) ⟨by decide, by decide, nm_r (e' := am_I (Gd 1)) (by rw [d1, r1, am_m7, g1]) ⟨by decide, nm_r (e' := am_I (Gd 2)) (by rw [d2, am_m7, g2]) ?_⟩⟩⟩
  refine am_psb (A := fun z => wL_lawOf_189 post mc ms x1 x2 x4 x5 x7 x8 x9 x10 x11 x12 x13 x14 x15 (am_I (Gd 0)) (am_I (Gd 1)) (am_I (Gd 2)) z 20 kc ks) (gv 0 (by omega)) ?_
  refine am_psb (A := fun z => wL_lawOf_200 post mc ms x1 x2 x4 x5 x7 x8 x9 x10 x11 x12 x13 x14 x15 (am_I (Gd 0)) (am_I (Gd 1)) (am_I (Gd 2)) z (am_I (am_ps (Gd 0))) 20 kc ks) (gv 1 (by omega)) ?_
  refine am_psb (A := fun z => wL_lawOf_212 post mc ms x1 x2 x4 x5 x7 x8 x9 x10 x11 x12 x13 x14 x15 (am_I (Gd 0)) (am_I (Gd 1)) (am_I (Gd 2)) z (am_I (am_ps (Gd 0)) + am_I (am_ps (Gd 1))) 20 kc ks) (gv 2 (by omega)) ?_
  have em : (20 : Int32) * (am_I (am_ps (Gd 0)) + am_I (am_ps (Gd 1)) + am_I (am_ps (Gd 2))) = am_I (am_most Gd) := by
    rw [am_Iadd, am_Iadd, show (20 : Int32) = am_I 20 from rfl, am_Imul]; rfl
  have el : (20 : Int32) * (am_I (am_ng (Gd 0)) + am_I (am_ng (Gd 1)) + am_I (am_ng (Gd 2))) = am_I (am_least Gd) := by
    rw [am_Iadd, am_Iadd, show (20 : Int32) = am_I 20 from rfl, am_Imul]; rfl
  refine nm_r em ?_
  refine am_ngb (A := fun z => wL_lawOf_229 post mc ms x1 x2 x4 x5 x7 x8 x9 x10 x11 x12 x13 x14 x15 (am_I (Gd 1)) (am_I (Gd 2)) (am_I (am_most Gd)) z 20 kc ks) (gv 0 (by omega)) ?_
  refine am_ngb (A := fun z => wL_lawOf_240 post mc ms x1 x2 x4 x5 x7 x8 x9 x10 x11 x12 x13 x14 x15 (am_I (Gd 2)) (am_I (am_most Gd)) z (am_I (am_ng (Gd 0))) 20 kc ks) (gv 1 (by omega)) ?_
  refine am_ngb (A := fun z => wL_lawOf_252 post mc ms x1 x2 x4 x5 x7 x8 x9 x10 x11 x12 x13 x14 x15 (am_I (am_most Gd)) z (am_I (am_ng (Gd 0)) + am_I (am_ng (Gd 1))) 20 kc ks) (gv 2 (by omega)) ?_
  refine nm_r el ?_
  have no : ¬ am_nn' P N Kd Bd → wL_lawOf_304 post mc ms x1 x2 x4 x5 x7 x8 x9 x10 x11 x12 x13 x14 x15 (am_I (am_most Gd)) (am_I (am_least Gd)) kc ks := fun q => am_l305 hp hc e14 e1 e2 hg (Or.inr ⟨rfl, q⟩)
  have yes : am_nn' P N Kd Bd → wL_lawOf_300 post mc ms x1 x2 x4 x5 x7 x8 x9 x10 x11 x12 x13 x14 x15 (am_I (am_most Gd)) (am_I (am_least Gd)) kc ks := fun q => am_l305 hp hc e14 e1 e2 hg (Or.inl ⟨rfl, q⟩)
  rw [am_nnk hk] at no yes
  refine br_c (fun q => no (fun y => by have := y.1; have := p0.mp q; omega)) (fun q => ?_)
  have hP1 : P = 1 := by
    have : ¬ P = 0 := fun y => q (p0.mpr y)
    omega
  have ne := am_mp (hc.2.2.2.2.2 hP1)
  rw [ne.1, ne.2] at no yes
  have E1 := e1 hP1
  have E2 := e2 hP1
  have v0 : am_V 0 := by unfold am_V; omega
  have v1 : am_V 1 := by unfold am_V; omega
  have vk : am_V (Kd 0) := by unfold am_V; omega
  have vB : am_V (Bd 0) := by unfold am_V; omega
  have vm : am_V (am_most Gd) := by unfold am_V; omega
  have vl : am_V (am_least Gd) := by unfold am_V; omega
  refine am_ieq (Kd 0) 0 vk v0 (fun k => am_ile (am_least Gd) (Bd 0) vl vB (fun q2 => no (by omega)) (fun q2 => yes (by omega)) rfl E2) (fun k => am_ieq (Kd 0) 1 vk v1 (fun k1 => am_ilt (Bd 0) (am_least Gd) vB vl (fun q2 => yes (by omega)) (fun q2 => am_ile (Bd 0) (am_most Gd) vB vm (fun q3 => no (by omega)) (fun q3 => yes (by omega)) E2 rfl) E2 rfl) (fun k1 => am_ile (Bd 0) (am_most Gd) vB vm (fun q2 => no (by omega)) (fun q2 => yes (by omega)) E2 rfl) E1 rfl) E1 rfl
end
end
section
theorem am_rest {P : Nat} {N Kd Bd Gd : Nat → Int} {s : St2} (hc : am_cf P N Kd Bd Gd) (hs : am_St P N Kd Bd Gd s) {p3 p4 p5 : Int32} {K : Int32 → Int32 → Int32 → Int32 → Prop}
    (h : ∀ r9 r10 r11 r12, ((p3 < 0 ∨ 2 < p3) → r9 = -10000000) → (¬ p3 < 0 → ¬ 2 < p3 → am_nn' P N Kd Bd → r9 = -30000000) → (¬ p3 < 0 → ¬ 2 < p3 → ¬ am_nn' P N Kd Bd → r9 = am_I (if P = 1 ∧ Kd 0 ≠ 2 ∧ Bd 0 < am_most Gd then Bd 0 else am_most Gd)) →
      (am_nn' P N Kd Bd → r10 = 0) → ((P = 0 ∨ am_id P N Kd Bd) → r10 = 9261) → ((p4 < 0 ∨ 3 ≤ p4 ∨ p5 < 0 ∨ ¬ p5 ≤ 1) → r11 = -10000000) → (¬ p4 < 0 → ¬ 3 ≤ p4 → ¬ p5 < 0 → p5 ≤ 1 → am_nn' P N Kd Bd → r11 = -30000000) → (¬ p4 < 0 → ¬ 3 ≤ p4 → ¬ p5 < 0 → p5 ≤ 1 → ¬ am_nn' P N Kd Bd → ¬ r11 = -30000000) →
      (am_id P N Kd Bd → r12 = 1) → (¬ am_id P N Kd Bd → r12 = 0) → K r9 r10 r11 r12) :
    wpX_bestTop (fun r9 u => wpX_wholes (fun r10 u => wpX_reachTop (fun r11 u => wpX_redundant (fun r12 _ => K r9 r10 r11 r12) u (nI 0)) u p4 p5) u) s p3 := by
  have d : ∀ r9 r10 r11 s, am_St P N Kd Bd Gd s → (∀ r12, (am_id P N Kd Bd → r12 = 1) → (¬ am_id P N Kd Bd → r12 = 0) → K r9 r10 r11 r12) → wpX_redundant (fun r12 _ => K r9 r10 r11 r12) s (nI 0) := fun r9 r10 r11 s hs k => am_redundant hc hs (fun q _ _ => k 0 (fun y => absurd y q) (fun _ => rfl)) (fun q _ _ => k 1 (fun _ => rfl) (fun y => absurd q y))
  have c : ∀ r9 r10 s, am_St P N Kd Bd Gd s → (∀ r11 r12, ((p4 < 0 ∨ 3 ≤ p4 ∨ p5 < 0 ∨ ¬ p5 ≤ 1) → r11 = -10000000) → (¬ p4 < 0 → ¬ 3 ≤ p4 → ¬ p5 < 0 → p5 ≤ 1 → am_nn' P N Kd Bd → r11 = -30000000) → (¬ p4 < 0 → ¬ 3 ≤ p4 → ¬ p5 < 0 → p5 ≤ 1 → ¬ am_nn' P N Kd Bd → ¬ r11 = -30000000) → (am_id P N Kd Bd → r12 = 1) → (¬ am_id P N Kd Bd → r12 = 0) → K r9 r10 r11 r12) → wpX_reachTop (fun r11 u => wpX_redundant (fun r12 _ => K r9 r10 r11 r12) u (nI 0)) s p4 p5 := by
    intro r9 r10 s hs k
    refine am_reachTop hc hs (fun q s hs => d _ _ _ s hs (fun r12 y1 y2 => k _ r12 (fun _ => rfl) (fun a b c d _ => ?_) (fun a b c d _ => ?_) y1 y2)) (fun a b c e q s hs => d _ _ _ s hs (fun r12 y1 y2 => k _ r12 (fun y => ?_) (fun _ _ _ _ _ => rfl) (fun _ _ _ _ y => absurd q y) y1 y2)) (fun a b c e q v hv s hs => d _ _ _ s hs (fun r12 y1 y2 => k _ r12 (fun y => ?_) (fun _ _ _ _ y => absurd y q) (fun _ _ _ _ _ => ?_) y1 y2))
    · exfalso
      rcases q with q | q | q | q
      · exact a q
      · exact b q
      · exact c q
      · exact q d
    · decide
    · exfalso
      rcases y with y | y | y | y
      · exact a y
      · exact b y
      · exact c y
      · exact y e
    · exfalso
      rcases y with y | y | y | y
      · exact a y
      · exact b y
      · exact c y
      · exact y e
    · intro y
      have : am_I v = am_I (-30000000) := y
      rw [am_Ieq (by unfold am_V; omega) (by unfold am_V; omega)] at this
      omega
  have b : ∀ r9 s, am_St P N Kd Bd Gd s → (∀ r10 r11 r12, (am_nn' P N Kd Bd → r10 = 0) → ((P = 0 ∨ am_id P N Kd Bd) → r10 = 9261) → ((p4 < 0 ∨ 3 ≤ p4 ∨ p5 < 0 ∨ ¬ p5 ≤ 1) → r11 = -10000000) → (¬ p4 < 0 → ¬ 3 ≤ p4 → ¬ p5 < 0 → p5 ≤ 1 → am_nn' P N Kd Bd → r11 = -30000000) → (¬ p4 < 0 → ¬ 3 ≤ p4 → ¬ p5 < 0 → p5 ≤ 1 → ¬ am_nn' P N Kd Bd → ¬ r11 = -30000000) → (am_id P N Kd Bd → r12 = 1) → (¬ am_id P N Kd Bd → r12 = 0) → K r9 r10 r11 r12) → wpX_wholes (fun r10 u => wpX_reachTop (fun r11 u => wpX_redundant (fun r12 _ => K r9 r10 r11 r12) u (nI 0)) u p4 p5) s :=
    fun r9 s hs k => am_wholes hc hs (fun r10 s hs w1 w2 => c r9 r10 s hs (fun r11 r12 a1 a2 a3 a4 a5 => k r10 r11 r12 w1 w2 a1 a2 a3 a4 a5))
  refine am_bestTop hc hs (fun q s hs => b _ s hs (h _ · · · (fun _ => rfl) (fun y1 y2 _ => ?_) (fun y1 y2 _ => ?_))) (fun q1 q2 q s hs => b _ s hs (h _ · · · (fun y => ?_) (fun _ _ _ => rfl) (fun _ _ y => absurd q y))) (fun q1 q2 q V hV s hs => b _ s hs (h _ · · · (fun y => ?_) (fun _ _ y => absurd y q) (fun _ _ _ => ?_)))
  · exfalso
    rcases q with q | q
    · exact y1 q
    · exact y2 q
  · exfalso
    rcases q with q | q
    · exact y1 q
    · exact y2 q
  · exfalso
    rcases y with y | y
    · exact q1 y
    · exact q2 y
  · exfalso
    rcases y with y | y
    · exact q1 y
    · exact q2 y
  · rw [am_dueU hc q hV]
/-- the checks of the law, from the flags on -/
theorem am_l110 {post : Int32 → St0 → Prop} {mc ms kc ks : Nat} {x0 x1 x2 x3 x4 x5 x7 x8 x9 x10 x11 x12 x13 x14 : Int32} {P w : Nat} {N Kd Bd Gd : Nat → Int} (hp : post 1 ()) (hc : am_cf P N Kd Bd Gd) (e14 : x14 = nI P) (e1 : P = 1 → x1 = am_I (Kd 0)) (e2 : P = 1 → x2 = am_I (Bd 0)) (hw : w < 3375) (hG : ∀ i, i < 3 → Gd i = am_dg w i) (h13 : (x13 = 0 ∧ w = 1687) ∨ (¬ x13 = 0 ∧ x0 = nI w))
    (h7 : x7 = if x14 = 0 then -10000000 else 0) (h8 : x8 = x13) (t0 : (x3 < 0 ∨ 2 < x3) → x9 = -10000000) (t1 : ¬ x3 < 0 → ¬ 2 < x3 → am_nn' P N Kd Bd → x9 = -30000000) (t2 : ¬ x3 < 0 → ¬ 2 < x3 → ¬ am_nn' P N Kd Bd → x9 = am_I (if P = 1 ∧ Kd 0 ≠ 2 ∧ Bd 0 < am_most Gd then Bd 0 else am_most Gd))
    (w0 : am_nn' P N Kd Bd → x10 = 0) (w1 : (P = 0 ∨ am_id P N Kd Bd) → x10 = 9261) (r0 : (x4 < 0 ∨ 3 ≤ x4 ∨ x5 < 0 ∨ ¬ x5 ≤ 1) → x11 = -10000000) (r1 : ¬ x4 < 0 → ¬ 3 ≤ x4 → ¬ x5 < 0 → x5 ≤ 1 → am_nn' P N Kd Bd → x11 = -30000000) (r2 : ¬ x4 < 0 → ¬ 3 ≤ x4 → ¬ x5 < 0 → x5 ≤ 1 → ¬ am_nn' P N Kd Bd → ¬ x11 = -30000000)
    (i1 : am_id P N Kd Bd → x12 = 1) (i0 : ¬ am_id P N Kd Bd → x12 = 0) : wL_lawOf_110 post mc ms x0 x1 x2 x3 x4 x5 x7 x8 x9 x10 x11 x12 x13 x14 kc ks := by
  have z0 : (0 : Int32).toInt = 0 := rfl
  have z1 : (1 : Int32).toInt = 1 := rfl
  have z2 : (2 : Int32).toInt = 2 := rfl
  have z3 : (3 : Int32).toInt = 3 := rfl
  have c4 : 2 < x4 → 3 ≤ x4 := fun q => by
    rw [Int32.lt_iff_toInt_lt] at q
    rw [Int32.le_iff_toInt_le]
    omega
  have c4' : ¬ 2 < x4 → ¬ 3 ≤ x4 := fun q y => q (by
    rw [Int32.le_iff_toInt_le] at y
    rw [Int32.lt_iff_toInt_lt]
    omega)
  have c5 : ¬ x5 = 0 → ¬ x5 = 1 → x5 < 0 ∨ ¬ x5 ≤ 1 := fun q1 q2 => by
    rw [← Int32.toInt_inj] at q1 q2
    rw [Int32.lt_iff_toInt_lt, Int32.le_iff_toInt_le]
    omega
  have c5' : (x5 = 0 ∨ x5 = 1) → ¬ x5 < 0 ∧ x5 ≤ 1 := fun q => by
    rcases q with q | q <;> subst q <;> decide
  have go : ∀ x15 : Int32, (x15 = 0 → (x3 < 0 ∨ 2 < x3)) → (¬ x15 = 0 → ¬ x3 < 0 ∧ ¬ 2 < x3) → wL_lawOf_126 post mc ms x0 x1 x2 x4 x5 x7 x8 x9 x10 x11 x12 x13 x14 x15 kc ks := by
    intro x15 g0 g1
    have got : am_got P N Kd Bd Gd x4 x5 x7 x8 x9 x10 x11 x12 x13 x14 x15 := by
      refine ⟨h7, h8, fun q => t0 (g0 q), fun q => t1 (g1 q).1 (g1 q).2, fun q => t2 (g1 q).1 (g1 q).2, w0, w1, fun q => r0 ?_, fun q1 q2 q3 => r1 q1 (c4' q2) (c5' q3).1 (c5' q3).2, fun q1 q2 q3 => r2 q1 (c4' q2) (c5' q3).1 (c5' q3).2, i1, i0⟩
      rcases q with q | q | ⟨q1, q2⟩
      · exact Or.inl q
      · exact Or.inr (Or.inl (c4 q))
      · exact Or.inr (Or.inr (c5 q1 q2))
    have fin := am_l140 (mc := mc) (ms := ms) (kc := kc) (ks := ks) hp hc e14 e1 e2 got hw hG
    unfold wL_lawOf_126
    refine br_c (fun q => ?_) (fun q => ?_)
    · rcases h13 with ⟨_, y⟩ | ⟨y, _⟩
      · rw [y] at fin; exact fin
      · exact absurd q y
    · rcases h13 with ⟨y, _⟩ | ⟨_, y⟩
      · exact absurd y q
      · rw [← y] at fin; exact fin
  unfold wL_lawOf_110
  exact br_c (fun q => go 0 (fun _ => Or.inl q) (fun y => absurd rfl y)) (fun q => br_c (fun q2 => go 0 (fun _ => Or.inr q2) (fun y => absurd rfl y)) (fun q2 => go 1 (fun y => absurd y (by decide)) (fun _ => ⟨q, q2⟩)))
theorem am_cellAt {post : Int32 → Prop} {L j : Nat} {xs : Nat → Int32} (hL : L ≤ 6) (hj : j < 6) (h : ∀ v, post v) : wpL_cellAt post L xs () (nI j) := by
  unfold wpL_cellAt
  exact pk_le L j (fun _ => h 0) (fun z => ⟨pk_in j L z, h _⟩)
/-- the flags in the order in which the law asks -/
theorem am_l77n {post : Int32 → St0 → Prop} {mc ms kc ks : Nat} {x0 x1 x2 x3 x4 x5 x7 x8 x9 x10 x11 x12 z : Int32} (hb : z = 0 ∨ x1 < 0 ∨ 2 < x1 ∨ x2 < -99 ∨ 99 < x2) (h : wL_lawOf_110 post mc ms x0 x1 x2 x3 x4 x5 x7 x8 x9 x10 x11 x12 z 0 kc ks) : wL_lawOf_77 post mc ms x0 x1 x2 x3 x4 x5 x7 x8 x9 x10 x11 x12 z kc ks := by
  have h' : wL_lawOf_109 post mc ms x0 x1 x2 x3 x4 x5 x7 x8 x9 x10 x11 x12 z kc ks := h
  unfold wL_lawOf_77
  refine br_c (fun _ => h') (fun q => br_c (fun _ => h') (fun q1 => br_c (fun _ => h') (fun q2 => br_c (fun _ => h') (fun q3 => br_c (fun _ => h') (fun q4 => ?_)))))
  exfalso
  rcases hb with y | y | y | y | y
  · exact q y
  · exact q1 y
  · exact q2 y
  · exact q3 y
  · exact q4 y
theorem am_l77y {post : Int32 → St0 → Prop} {mc ms kc ks : Nat} {x0 x1 x2 x3 x4 x5 x7 x8 x9 x10 x11 x12 z : Int32} (h0 : ¬ z = 0) (h1 : ¬ x1 < 0) (h2 : ¬ 2 < x1) (h3 : ¬ x2 < -99) (h4 : ¬ 99 < x2) (h : wL_lawOf_110 post mc ms x0 x1 x2 x3 x4 x5 x7 x8 x9 x10 x11 x12 z 1 kc ks) : wL_lawOf_77 post mc ms x0 x1 x2 x3 x4 x5 x7 x8 x9 x10 x11 x12 z kc ks := by
  unfold wL_lawOf_77
  exact br_f h0 (br_f h1 (br_f h2 (br_f h3 (br_f h4 h))))
end
section
section
variable {pr_ wo_ ro_ tu_ co_ fw_ wc_ li_ em_ hh_ hl_ br_ l3_ g3_ : Int32} {un_ wt_ wb_ ht_ hb_ lt_ lb_ : Int64} {a1 a2 a3 a4 a5 a6 a7 a8 a9 a11 a12 a18 a19 : Nat → Int32} {a10 a13 a14 a15 a16 a17 : Nat → Int64}
theorem am_addBad {post : Int32 → St2 → Prop} {p0 p1 p2 : Int32} (hb : p0 < 0 ∨ 3375 ≤ p0 ∨ p1 < 0 ∨ 2 < p1 ∨ p2 < -99 ∨ ¬ p2 ≤ 99) (h : post (-10000000) (pr_, wo_, ro_, tu_, un_, co_, fw_, wc_, wt_, wb_, li_, em_, hh_, ht_, hb_, hl_, lt_, lb_, br_, l3_, g3_, a1, a2, a3, a4, a5, a6, a7, a8, a9, a10, a11, a12, a13, a14, a15, a16, a17, a18, a19)) : wpX_add post (pr_, wo_, ro_, tu_, un_, co_, fw_, wc_, wt_, wb_, li_, em_, hh_, ht_, hb_, hl_, lt_, lb_, br_, l3_, g3_, a1, a2, a3, a4, a5, a6, a7, a8, a9, a10, a11, a12, a13, a14, a15, a16, a17, a18, a19) p0 p1 p2 := by
  unfold wpX_add
  refine br_c (fun _ => h) (fun q0 => br_c (fun _ => h) (fun q1 => br_c (fun _ => h) (fun q2 => br_c (fun _ => h) (fun q3 => br_c (fun _ => h) (fun q4 => br_c (fun q5 => ?_) (fun _ => h))))))
  exfalso
  rcases hb with y | y | y | y | y | y
  · exact q0 y
  · exact q1 y
  · exact q2 y
  · exact q3 y
  · exact q4 y
  · exact y q5
theorem am_goalBad {post : Int32 → St2 → Prop} {p0 : Int32} (hb : p0 < 0 ∨ 3375 ≤ p0) (h : post 0 (pr_, wo_, ro_, tu_, un_, co_, fw_, wc_, wt_, wb_, li_, em_, hh_, ht_, hb_, hl_, lt_, lb_, br_, l3_, g3_, a1, a2, a3, a4, a5, a6, a7, a8, a9, a10, a11, a12, a13, a14, a15, a16, a17, a18, a19)) : wpX_goal post (pr_, wo_, ro_, tu_, un_, co_, fw_, wc_, wt_, wb_, li_, em_, hh_, ht_, hb_, hl_, lt_, lb_, br_, l3_, g3_, a1, a2, a3, a4, a5, a6, a7, a8, a9, a10, a11, a12, a13, a14, a15, a16, a17, a18, a19) p0 := by
  unfold wpX_goal
  refine br_c (fun _ => h) (fun q0 => br_c (fun q1 => ?_) (fun _ => h))
  exfalso
  rcases hb with y | y
  · exact q0 y
  · exact absurd q1 (Int32.not_lt.mpr y)
end
theorem am_3374 {p : Int32} : 3375 ≤ p → 3374 < p := fun h => by
  have z1 : (3374 : Int32).toInt = 3374 := rfl
  have z2 : (3375 : Int32).toInt = 3375 := rfl
  rw [Int32.le_iff_toInt_le] at h
  rw [Int32.lt_iff_toInt_lt]
  omega
theorem am_lawOf {post : Int32 → St0 → Prop} (hp : post 1 ()) (p0 p1 p2 p3 p4 p5 : Int32) : wpL_lawOf post 2310 36944 () p0 p1 p2 p3 p4 p5 := by
  unfold wpL_lawOf
  refine ⟨by omega, by omega, 100, 10000, by omega, by omega, ?_⟩
  unfold wpX_init
  repeat refine ⟨by omega, ?_⟩
  -- what is asked of the numbers alone
  have trip : (p0 < 0 ∨ 3375 ≤ p0) ∨ ∃ w : Nat, w < 3375 ∧ p0 = nI w := by
    rcases pk_ix p0 (n := 3375) (by omega) with y | y | y
    · exact Or.inl (Or.inl y)
    · exact Or.inl (Or.inr y)
    · exact Or.inr y
  have cf0 : ∀ Gd : Nat → Int, am_s7 Gd → am_cf 0 (fun _ => 0) (fun _ => 0) (fun _ => 0) Gd := fun Gd hG => ⟨by omega, fun j _ => by show (0 : Int).natAbs ≤ 7; decide, hG, Or.inl rfl, by show (0 : Int).natAbs ≤ 128; decide, fun z => absurd z (by omega)⟩
  rcases trip with bad | ⟨w, hw, rfl⟩
  · refine am_addBad (by rcases bad with y | y; exact Or.inl y; exact Or.inr (Or.inl y)) ?_
    refine am_goalBad bad ?_
    have g0 : ∀ i, i < 3 → (fun _ => 0 : Nat → Int) i = am_dg 1687 i := am_3 rfl rfl rfl
    have hc := cf0 (fun _ => 0) (fun j _ => by show (0 : Int).natAbs ≤ 7; decide)
    refine am_rest (K := fun r9 r10 r11 r12 => (p0 < 0 → wL_lawOf_76 post 2310 36944 p0 p1 p2 p3 p4 p5 (-10000000) 0 r9 r10 r11 r12 (1 + 100) (40 + 10000)) ∧ (¬ p0 < 0 → (3374 < p0 → wL_lawOf_76 post 2310 36944 p0 p1 p2 p3 p4 p5 (-10000000) 0 r9 r10 r11 r12 (1 + 100) (40 + 10000)) ∧ (¬ 3374 < p0 → wL_lawOf_77 post 2310 36944 p0 p1 p2 p3 p4 p5 (-10000000) 0 r9 r10 r11 r12 1 (1 + 100) (40 + 10000)))) hc ⟨0, 0, fun _ => 0, -1, 0, 0, 0, 0, 0, 0, 0, fun _ => 0, fun _ => 0, fun _ => 0, fun _ => 0, fun _ => 0, fun _ => 0, fun _ => 0, fun _ => 0, fun _ _ => 0, 0, 0, 0, 0, 0, 0, 0, 0, 0, 0, fun _ => 0, fun _ => 0, rfl⟩ (fun r9 r10 r11 r12 a1 a2 a3 a4 a5 a6 a7 a8 a9 a10 => ?_)
    have fin : wL_lawOf_76 post 2310 36944 p0 p1 p2 p3 p4 p5 (-10000000) 0 r9 r10 r11 r12 (1 + 100) (40 + 10000) :=
      am_l77n (Or.inl rfl) (am_l110 (w := 1687) (x13 := 0) hp hc rfl (fun z => absurd z (by omega)) (fun z => absurd z (by omega)) (by omega) g0 (Or.inl ⟨rfl, rfl⟩) (by rw [if_pos rfl]) rfl a1 a2 a3 a4 a5 a6 a7 a8 a9 a10)
    refine br_c (fun _ => fin) (fun q => br_c (fun _ => fin) (fun q2 => ?_))
    rcases bad with y | y
    · exact absurd y q
    · exact absurd (am_3374 y) q2
  · have n0 : ¬ nI w < 0 := nI_pos (by omega)
    have n3 : ¬ (3374 : Int32) < nI w := nI_nlt (a := 3374) (b := w) (by omega) (by omega)
    by_cases ok : p1 < 0 ∨ 2 < p1 ∨ p2 < -99 ∨ ¬ p2 ≤ 99
    · refine am_addBad (Or.inr (Or.inr ok)) ?_
      refine am_goal (G0 := fun _ => 0) hw (fun G hG => ?_)
      have hc := cf0 G (fun j hj => by rw [hG j hj]; exact am_dg7 w j)
      refine am_rest (K := fun r9 r10 r11 r12 => (nI w < 0 → wL_lawOf_76 post 2310 36944 (nI w) p1 p2 p3 p4 p5 (-10000000) 1 r9 r10 r11 r12 (1 + 100) (40 + 10000)) ∧ (¬ nI w < 0 → (3374 < nI w → wL_lawOf_76 post 2310 36944 (nI w) p1 p2 p3 p4 p5 (-10000000) 1 r9 r10 r11 r12 (1 + 100) (40 + 10000)) ∧ (¬ 3374 < nI w → wL_lawOf_77 post 2310 36944 (nI w) p1 p2 p3 p4 p5 (-10000000) 1 r9 r10 r11 r12 1 (1 + 100) (40 + 10000)))) hc ⟨0, 0, fun _ => 0, -1, 0, 0, 0, 0, 0, 0, 0, fun _ => 0, fun _ => 0, fun _ => 0, fun _ => 0, fun _ => 0, fun _ => 0, fun _ => 0, fun _ => 0, fun _ _ => 0, 0, 0, 0, 0, 0, 0, 0, 0, 0, 0, fun _ => 0, fun _ => 0, rfl⟩ (fun r9 r10 r11 r12 a1 a2 a3 a4 a5 a6 a7 a8 a9 a10 => br_f n0 (br_f n3 (am_l77n ?_ (am_l110 (w := w) (x13 := 1) hp hc rfl (fun z => absurd z (by omega)) (fun z => absurd z (by omega)) hw hG (Or.inr ⟨by decide, rfl⟩) (by rw [if_pos rfl]) rfl a1 a2 a3 a4 a5 a6 a7 a8 a9 a10))))
      rcases ok with y | y | y | y
      · exact Or.inr (Or.inl y)
      · exact Or.inr (Or.inr (Or.inl y))
      · exact Or.inr (Or.inr (Or.inr (Or.inl y)))
      · exact Or.inr (Or.inr (Or.inr (Or.inr (Int32.not_le.mp y))))
    · have k1 : ¬ p1 < 0 := fun y => ok (Or.inl y)
      have k2 : ¬ 2 < p1 := fun y => ok (Or.inr (Or.inl y))
      have k3 : ¬ p2 < -99 := fun y => ok (Or.inr (Or.inr (Or.inl y)))
      have k4 : p2 ≤ 99 := Classical.byContradiction (fun y => ok (Or.inr (Or.inr (Or.inr y))))
      have k4' : ¬ 99 < p2 := Int32.not_lt.mpr k4
      obtain ⟨k, hk, rfl⟩ := am_02 k1 k2
      obtain ⟨B, eB, hB1, hB2⟩ : ∃ B : Int, p2 = am_I B ∧ -99 ≤ B ∧ B ≤ 99 := by
        refine ⟨p2.toInt, am_exI p2, ?_, ?_⟩
        · have z1 : (-99 : Int32).toInt = -99 := by decide
          rw [Int32.lt_iff_toInt_lt] at k3
          omega
        · have z1 : (99 : Int32).toInt = 99 := rfl
          rw [Int32.le_iff_toInt_le] at k4
          omega
      subst eB
      refine am_add (N0 := fun _ => 0) (K0 := fun _ => 0) (B0 := fun _ => 0) hw (by omega) hB1 hB2 (fun N hN => ?_)
      refine am_goal (G0 := fun _ => 0) hw (fun G hG => ?_)
      have e1 : am_up (fun _ => 0) 0 (k : Int) 0 = (k : Int) := am_ups _ _ _
      have e2 : am_up (fun _ => 0) 0 B 0 = B := am_ups _ _ _
      have hc : am_cf 1 N (am_up (fun _ => 0) 0 (k : Int)) (am_up (fun _ => 0) 0 B) G := by
        refine ⟨by omega, fun j hj => by rw [hN j hj]; exact am_dg7 w j, fun j hj => by rw [hG j hj]; exact am_dg7 w j, ?_, ?_, fun _ i hi => by rw [hN i hi, hG i hi]⟩
        · rw [e1]; omega
        · rw [e2]; omega
      exact am_rest (K := fun r9 r10 r11 r12 => (nI w < 0 → wL_lawOf_76 post 2310 36944 (nI w) (nI k) (am_I B) p3 p4 p5 0 1 r9 r10 r11 r12 (1 + 100) (40 + 10000)) ∧ (¬ nI w < 0 → (3374 < nI w → wL_lawOf_76 post 2310 36944 (nI w) (nI k) (am_I B) p3 p4 p5 0 1 r9 r10 r11 r12 (1 + 100) (40 + 10000)) ∧ (¬ 3374 < nI w → wL_lawOf_77 post 2310 36944 (nI w) (nI k) (am_I B) p3 p4 p5 0 1 r9 r10 r11 r12 1 (1 + 100) (40 + 10000)))) hc ⟨0, 0, fun _ => 0, -1, 0, 0, 0, 0, 0, 0, 0, fun _ => 0, fun _ => 0, fun _ => 0, fun _ => 0, fun _ => 0, fun _ => 0, fun _ => 0, fun _ => 0, fun _ _ => 0, 0, 0, 0, 0, 0, 0, 0, 0, 0, 0, fun _ => 0, fun _ => 0, rfl⟩ (fun r9 r10 r11 r12 a1 a2 a3 a4 a5 a6 a7 a8 a9 a10 => br_f n0 (br_f n3 (am_l77y (by decide) k1 k2 k3 k4' (am_l110 (w := w) (x13 := 1) hp hc rfl (fun _ => by rw [e1, am_nI]) (fun _ => by rw [e2]) hw hG (Or.inr ⟨by decide, rfl⟩) (by rw [if_neg (by decide)]) rfl a1 a2 a3 a4 a5 a6 a7 a8 a9 a10))))
theorem i_vc (xs : Nat → Int32) (L : Nat) (hL : L ≤ 6) : wpL_law (fun r => r = 1) L xs := by
  unfold wpL_law
  refine am_cellAt (j := 0) hL (by omega) (fun v0 => am_cellAt (j := 1) hL (by omega) (fun v1 => am_cellAt (j := 2) hL (by omega) (fun v2 => am_cellAt (j := 3) hL (by omega) (fun v3 => am_cellAt (j := 4) hL (by omega) (fun v4 => am_cellAt (j := 5) hL (by omega) (fun v5 => ⟨2310, 36944, by omega, by omega, ?_⟩))))))
  exact am_lawOf rfl v0 v1 v2 v3 v4 v5
end
