section
/-! bits of an int and of a long (rows on an int's bits turned from the kit's BITS.to-paste, renamed) -/
def cy_bt (x : Int32) (i : Nat) : Bool := x.toBitVec.getLsbD i
/-- a boolean as an int -/
def cy_b (b : Bool) : Int32 := if b = true then 1 else 0
theorem cy_b_t : cy_b true = 1 := rfl
theorem cy_b_f : cy_b false = 0 := rfl
theorem cy_b_0 {b : Bool} : cy_b b = 0 ↔ b = false := by cases b <;> decide
theorem cy_b_1 {b : Bool} : cy_b b = 1 ↔ b = true := by cases b <;> decide
theorem cy_b_n (b : Bool) : cy_b b = nI b.toNat := by cases b <;> rfl
theorem cy_br {b : Bool} {A B : Prop} (f : b = false → A) (g : b = true → B) : (cy_b b = 0 → A) ∧ (¬ cy_b b = 0 → B) := by
  cases b
  · exact br_t rfl (f rfl)
  · exact br_f (by decide) (g rfl)
theorem cy_ext {x y : Int32} (h : ∀ i, i < 32 → cy_bt x i = cy_bt y i) : x = y := Int32.toBitVec_inj.mp (BitVec.eq_of_getLsbD_eq (fun i hi => h i hi))
theorem cy_or (x y : Int32) (i : Nat) : cy_bt (x ||| y) i = (cy_bt x i || cy_bt y i) := by unfold cy_bt; rw [Int32.toBitVec_or, BitVec.getLsbD_or]
theorem cy_and (x y : Int32) (i : Nat) : cy_bt (x &&& y) i = (cy_bt x i && cy_bt y i) := by unfold cy_bt; rw [Int32.toBitVec_and, BitVec.getLsbD_and]
theorem cy_0 (i : Nat) : cy_bt 0 i = false := BitVec.getLsbD_zero
theorem cy_s_l : ∀ n, n < 32 → ((nI n &&& 31).toBitVec.smod 32).toNat = n := by decide +kernel
theorem cy_s_u : ∀ n, n < 32 → (((nI n).toUInt32 &&& Int32.toUInt32 31).toBitVec % 32).toNat = n := by decide +kernel
theorem cy_ushr (n : Nat) (hn : n < 32) (x : Int32) (i : Nat) : cy_bt ((x.toUInt32 >>> ((nI n).toUInt32 &&& Int32.toUInt32 31)).toInt32) i = cy_bt x (n + i) := by
  show (x.toUInt32 >>> ((nI n).toUInt32 &&& Int32.toUInt32 31)).toBitVec.getLsbD i = x.toUInt32.toBitVec.getLsbD (n + i)
  rw [UInt32.toBitVec_shiftRight]
  show (x.toUInt32.toBitVec >>> (((nI n).toUInt32 &&& Int32.toUInt32 31).toBitVec % 32).toNat).getLsbD i = _
  rw [cy_s_u n hn, BitVec.getLsbD_ushiftRight]
theorem cy_sshr (n : Nat) (hn : n < 32) (x : Int32) {i : Nat} (hi : i < 32) : cy_bt (x >>> (nI n &&& 31)) i = if n + i < 32 then cy_bt x (n + i) else cy_bt x 31 := by
  unfold cy_bt
  rw [Int32.toBitVec_shiftRight]
  show (x.toBitVec.sshiftRight ((nI n &&& 31).toBitVec.smod 32).toNat).getLsbD i = _
  rw [cy_s_l n hn, BitVec.getLsbD_sshiftRight, BitVec.msb_eq_getLsbD_last]
  simp [hi]
theorem cy_one (x : Int32) : x &&& 1 = cy_b (cy_bt x 0) := by
  unfold cy_bt
  apply Int32.toBitVec_inj.mp
  rw [Int32.toBitVec_and]
  show x.toBitVec &&& 1#32 = _
  rw [BitVec.and_one_eq_setWidth_ofBool_getLsbD]
  cases x.toBitVec.getLsbD 0 <;> rfl
/-- one bit, taken by >>> -/
theorem cy_ub (x : Int32) {n : Nat} (hn : n < 32) : (x.toUInt32 >>> ((nI n).toUInt32 &&& Int32.toUInt32 31)).toInt32 &&& 1 = cy_b (cy_bt x n) := by
  rw [cy_one, cy_ushr n hn, Nat.add_zero]
/-- one bit, taken by >> -/
theorem cy_sb (x : Int32) {n : Nat} (hn : n < 32) : (x >>> (nI n &&& 31)) &&& 1 = cy_b (cy_bt x n) := by
  rw [cy_one, cy_sshr n hn x (by omega), if_pos (by omega), Nat.add_zero]
theorem cy_sh1 : ∀ n, n < 32 → ∀ i, i < 32 → cy_bt ((1 : Int32) <<< (nI n &&& 31)) i = decide (i = n) := by decide +kernel
theorem cy_sh1n : ∀ n, n < 7 → (1 : Int32) <<< (nI n &&& 31) = nI (2 ^ n) := by decide +kernel
theorem cy_full : ∀ l, l < 32 → 28 ≤ l → ∀ i, i < 32 → cy_bt (((-1 : Int32).toUInt32 >>> ((32 - nI l).toUInt32 &&& Int32.toUInt32 31)).toInt32) i = decide (i < l) := by decide +kernel
theorem cy_nt (w : Nat) {i : Nat} (hi : i < 32) : cy_bt (nI w) i = w.testBit i := by
  show (BitVec.ofNat 32 w).getLsbD i = _
  rw [BitVec.getLsbD_ofNat]
  simp [hi]
theorem cy_bt1 : ∀ i, i < 32 → cy_bt 1 i = decide (i = 0) := by decide +kernel
theorem cy_ofn (x : Int32) : ∃ n, n < 2 ^ 32 ∧ x = nI n := ⟨x.toBitVec.toNat, x.toBitVec.isLt, Int32.toBitVec_inj.mp (by show _ = BitVec.ofNat 32 _; simp)⟩
/-! longs -/
def cy_lb (w : Int64) (j : Nat) : Bool := w.toBitVec.getLsbD j
/-- a day's bit -/
def cy_on (a : Nat → Int64) (d : Nat) : Bool := cy_lb (a (d / 64)) (d % 64)
theorem cy_lc : ∀ k, k < 64 → ((nI k).toInt64.toUInt64 &&& Int64.toUInt64 63).toNat = k := by decide +kernel
theorem cy_l1s : ∀ k, k < 64 → ((1 : Int64) <<< ((nI k).toInt64 &&& 63)).toBitVec = BitVec.twoPow 64 k := by decide +kernel
theorem cy_lshr (w : Int64) {j : Nat} (hj : j < 64) : ((w.toUInt64 >>> ((nI j).toInt64.toUInt64 &&& Int64.toUInt64 63)).toInt64).toBitVec = w.toBitVec >>> j := by
  apply BitVec.eq_of_toNat_eq
  show (w.toUInt64 >>> ((nI j).toInt64.toUInt64 &&& Int64.toUInt64 63)).toNat = _
  rw [UInt64.toNat_shiftRight, cy_lc j hj, Nat.mod_eq_of_lt hj, BitVec.toNat_ushiftRight]
  rfl
theorem cy_lone (w : Int64) : w &&& 1 = 1 ↔ cy_lb w 0 = true := by
  unfold cy_lb
  rw [← Int64.toBitVec_inj, Int64.toBitVec_and]
  show w.toBitVec &&& 1#64 = 1#64 ↔ _
  rw [BitVec.and_one_eq_setWidth_ofBool_getLsbD]
  cases w.toBitVec.getLsbD 0
  · exact ⟨fun z => absurd z (by decide), fun z => absurd z (by decide)⟩
  · exact ⟨fun _ => rfl, fun _ => by decide⟩
theorem cy_ltest (w : Int64) {j : Nat} (hj : j < 64) : (w.toUInt64 >>> ((nI j).toInt64.toUInt64 &&& Int64.toUInt64 63)).toInt64 &&& 1 = 1 ↔ cy_lb w j = true := by
  rw [cy_lone]
  unfold cy_lb
  rw [cy_lshr w hj, BitVec.getLsbD_ushiftRight, Nat.add_zero]
theorem cy_lint (w : Int64) {j : Nat} (hj : j < 64) : ((w.toUInt64 >>> ((nI j).toInt64.toUInt64 &&& Int64.toUInt64 63)).toInt64).toInt32 &&& 1 = cy_b (cy_lb w j) := by
  rw [cy_one]
  unfold cy_bt cy_lb
  rw [Int64.toBitVec_toInt32, cy_lshr w hj, BitVec.getLsbD_signExtend]
  simp
theorem cy_lor (w : Int64) {j : Nat} (hj : j < 64) (i : Nat) : cy_lb (w ||| ((1 : Int64) <<< ((nI j).toInt64 &&& 63))) i = (cy_lb w i || decide (i = j)) := by
  unfold cy_lb
  rw [Int64.toBitVec_or, cy_l1s j hj, BitVec.getLsbD_or, BitVec.getLsbD_twoPow]
  congr 1
  by_cases e : i = j
  · subst e; simp [hj]
  · have : ¬ j = i := fun z => e z.symm
    simp [e, this]
theorem cy_lclr (w : Int64) {j : Nat} (hj : j < 64) {i : Nat} (hi : i < 64) : cy_lb (w &&& (((1 : Int64) <<< ((nI j).toInt64 &&& 63)) ^^^ (-1))) i = (cy_lb w i && !decide (i = j)) := by
  have ha : (-1 : Int64).toBitVec = BitVec.allOnes 64 := by decide
  unfold cy_lb
  rw [Int64.toBitVec_and, Int64.toBitVec_xor, cy_l1s j hj, ha, BitVec.getLsbD_and, BitVec.getLsbD_xor, BitVec.getLsbD_twoPow, BitVec.getLsbD_allOnes]
  by_cases e : i = j
  · subst e; simp [hj]
  · have : ¬ j = i := fun z => e z.symm
    simp [e, this, hi]
theorem cy_lmask : ∀ j, j < 64 → ∀ i, i < 64 → cy_lb (((1 : Int64) <<< ((nI j).toInt64 &&& 63)) - 1) i = decide (i < j) := by decide +kernel
theorem cy_lrest (w : Int64) {j : Nat} (hj : j < 64) {i : Nat} (hi : i < 64) : cy_lb (w &&& (((1 : Int64) <<< ((nI j).toInt64 &&& 63)) - 1)) i = (cy_lb w i && decide (i < j)) := by
  rw [← cy_lmask j hj i hi]
  unfold cy_lb
  rw [Int64.toBitVec_and, BitVec.getLsbD_and]
theorem cy_l0 (i : Nat) : cy_lb 0 i = false := BitVec.getLsbD_zero
/-- the words' writes, by days -/
theorem cy_on_or (a : Nat → Int64) {d : Nat} (D : Nat) : cy_on (vp_updL a (d / 64) (a (d / 64) ||| ((1 : Int64) <<< ((nI (d % 64)).toInt64 &&& 63)))) D = (cy_on a D || decide (D = d)) := by
  unfold cy_on
  by_cases e : D / 64 = d / 64
  · rw [e, pk_uLs, cy_lor _ (by omega)]
    congr 1
    by_cases g : D = d
    · rw [g]; simp
    · rw [decide_eq_false g, decide_eq_false (by omega)]
  · rw [pk_uLn e, decide_eq_false (by intro z; exact e (by rw [z])), Bool.or_false]
theorem cy_on_clr (a : Nat → Int64) {d : Nat} (D : Nat) : cy_on (vp_updL a (d / 64) (a (d / 64) &&& (((1 : Int64) <<< ((nI (d % 64)).toInt64 &&& 63)) ^^^ (-1)))) D = (cy_on a D && !decide (D = d)) := by
  unfold cy_on
  by_cases e : D / 64 = d / 64
  · rw [e, pk_uLs, cy_lclr _ (by omega) (by omega)]
    congr 2
    by_cases g : D = d
    · rw [g]; simp
    · rw [decide_eq_false g, decide_eq_false (by omega)]
  · rw [pk_uLn e, decide_eq_false (by intro z; exact e (by rw [z]))]; simp
/-- a day's word and its place there -/
theorem cy_wd {d : Nat} (h : d < 2 ^ 31) : nI d >>> ((6 : Int32) &&& 31) = nI (d / 64) := pk_shrN h _ 6 (by decide)
theorem cy_bit {d : Nat} (h : d < 2 ^ 31) : nI d &&& 63 = nI (d % 64) := pk_andN (by omega) 6 (by decide)
/-! ints that may be negative -/
def cy_i (z : Int) : Int32 := Int32.ofInt z
theorem cy_iN (n : Nat) : nI n = cy_i n := by
  unfold cy_i nI
  apply Int32.toBitVec_inj.mp
  show BitVec.ofNat 32 n = BitVec.ofInt 32 n
  simp
theorem cy_iadd (a b : Int) : cy_i a + cy_i b = cy_i (a + b) := (Int32.ofInt_add a b).symm
theorem cy_isub (a b : Int) : cy_i a - cy_i b = cy_i (a - b) := (Int32.ofInt_sub a b).symm
theorem cy_imul (a b : Int) : cy_i a * cy_i b = cy_i (a * b) := (Int32.ofInt_mul a b).symm
theorem cy_iT {a : Int} (h : -100000 ≤ a) (h2 : a ≤ 100000) : (cy_i a).toInt = a := Int32.toInt_ofInt_of_le (by omega) (by omega)
theorem cy_ilt {a b : Int} (h : -100000 ≤ a) (h2 : a ≤ 100000) (h3 : -100000 ≤ b) (h4 : b ≤ 100000) : cy_i a < cy_i b ↔ a < b := by rw [Int32.lt_iff_toInt_lt, cy_iT h h2, cy_iT h3 h4]
theorem cy_ile {a b : Int} (h : -100000 ≤ a) (h2 : a ≤ 100000) (h3 : -100000 ≤ b) (h4 : b ≤ 100000) : cy_i a ≤ cy_i b ↔ a ≤ b := by rw [Int32.le_iff_toInt_le, cy_iT h h2, cy_iT h3 h4]
end
section
/-! the calendar -/
def cy_ys (y : Nat) : Nat := 365 * y + (y + 3) / 4
def cy_ml (y m : Nat) : Nat := if m = 1 then (if y % 4 = 0 then 29 else 28) else if m = 3 then 30 else if m = 5 then 30 else if m = 8 then 30 else if m = 10 then 30 else 31
def cy_ms (y : Nat) : Nat → Nat
  | 0 => cy_ys y
  | m + 1 => cy_ms y m + cy_ml y m
theorem cy_ms12 : ∀ y, y < 20 → cy_ms y 12 = cy_ys (y + 1) := by decide +kernel
theorem cy_ml_b (y m : Nat) : 28 ≤ cy_ml y m ∧ cy_ml y m ≤ 31 := by
  unfold cy_ml
  repeat' split
  all_goals omega
theorem cy_msb : ∀ y, y < 20 → ∀ m, m < 13 → cy_ms y m ≤ 7305 := by decide +kernel
theorem cy_ms_mono (y : Nat) {a b : Nat} (h : a ≤ b) : cy_ms y a ≤ cy_ms y b := by
  induction b with
  | zero => rw [show a = 0 by omega]; exact Nat.le_refl _
  | succ b ih =>
    by_cases e : a = b + 1
    · rw [e]; exact Nat.le_refl _
    · have := ih (by omega)
      show cy_ms y a ≤ cy_ms y b + cy_ml y b
      omega
theorem cy_yex {d : Nat} (hd : d ≤ 7304) : ∃ y, y < 20 ∧ cy_ys y ≤ d ∧ d < cy_ys (y + 1) := by
  obtain ⟨k, h1, h2⟩ := pk_least (fun k => d < cy_ys (k + 1)) ⟨19, show d < cy_ys 20 by unfold cy_ys; omega⟩
  refine ⟨k, ?_, ?_, h1⟩
  · rcases Nat.lt_or_ge k 20 with z | z
    · exact z
    · exact absurd (show d < cy_ys (19 + 1) by unfold cy_ys; omega) (h2 19 (by omega))
  · cases k with
    | zero => unfold cy_ys; omega
    | succ j =>
      have := h2 j (by omega)
      omega
theorem cy_mex {d y : Nat} (hy : y < 20) (h0 : cy_ys y ≤ d) (h1 : d < cy_ys (y + 1)) : ∃ m, m < 12 ∧ cy_ms y m ≤ d ∧ d < cy_ms y (m + 1) := by
  have h12 := cy_ms12 y hy
  obtain ⟨k, g1, g2⟩ := pk_least (fun k => d < cy_ms y (k + 1)) ⟨11, show d < cy_ms y 12 by omega⟩
  refine ⟨k, ?_, ?_, g1⟩
  · rcases Nat.lt_or_ge k 12 with z | z
    · exact z
    · exact absurd (show d < cy_ms y (11 + 1) by rw [h12]; exact h1) (g2 11 (by omega))
  · cases k with
    | zero => exact h0
    | succ j =>
      have := g2 j (by omega)
      omega
/-! the methods that make no use of an object -/
theorem cy_badDay {post : Int32 → Prop} {x : Int32} {d : Nat} (hx : x = nI d) (hd : d ≤ 7304) (h : post 0) : wpX_badDay post () x := by
  subst hx
  exact pk_lt d 0 (fun z => absurd z (by omega)) (fun _ => pk_le d 7304 (fun _ => h) (fun z => absurd z (by omega)))
theorem cy_ysI {y : Nat} (hy : y < 1000) : (365 * nI y) + ((nI y + 3) / 4) = nI (cy_ys y) := by
  rw [show (365 : Int32) = nI 365 from rfl, show (3 : Int32) = nI 3 from rfl, show (4 : Int32) = nI 4 from rfl, pk_mul, nI_add, pk_div (by omega) (by omega) (by omega), nI_add]
  rfl
theorem cy_yearStart {post : Int32 → Prop} {x : Int32} {y : Nat} (hx : x = nI y) (hy : y < 1000) (h : post (nI (cy_ys y))) : wpX_yearStart post () x := by
  subst hx
  exact ⟨by decide, by rw [cy_ysI hy]; exact h⟩
theorem cy_yearOf {post : Int32 → Prop} {x : Int32} {d : Nat} (hx : x = nI d) (hd : d ≤ 7304) (h : ∀ y, y < 20 → cy_ys y ≤ d → d < cy_ys (y + 1) → post (nI y)) : wpX_yearOf post () x := by
  subst hx
  obtain ⟨y, y1, y2, y3⟩ := cy_yex hd
  have hp := h y y1 y2 y3
  refine pk_loop (σ := Unit) (fun n i _ => wX_yearOf_2 post (nI d) n (nI i)) (fun _ _ => True) y 0 () (by omega) trivial ?_ ?_
  · intro n _ _
    refine pk_le 19 y (fun _ => hp) (fun z => cy_yearStart (nI_1 y) (by omega) ?_)
    exact pk_lt d (cy_ys (y + 1)) (fun _ => hp) (fun z => absurd z (by omega)) (hb := by unfold cy_ys; omega)
  · intro n i _ hi _ hw
    have hm : cy_ys (i + 1) ≤ cy_ys y := by unfold cy_ys; omega
    refine pk_le 19 i (fun z => absurd z (by omega)) (fun z => cy_yearStart (nI_1 i) (by omega) ?_)
    exact pk_lt d (cy_ys (i + 1)) (fun z => absurd z (by omega)) (fun _ => nm_r (nI_1 i) (hw () trivial))
theorem cy_monthLength {post : Int32 → Prop} {x z : Int32} {y m : Nat} (hx : x = nI y) (hz : z = nI m) (hy : y < 1000) (hm : m < 1000) (h : post (nI (cy_ml y m))) : wpX_monthLength post () x z := by
  subst hx hz
  refine pk_eq m 1 (fun e => ?_) (fun e => ?_)
  · refine pk_eq (y % 4) 0 (fun g => br_f (by decide) ?_) (fun g => br_t rfl ?_) (hx := pk_andN (by omega) 2 (by decide))
    · have q : cy_ml y m = 29 := by simp [cy_ml, e, g]
      rw [q] at h; exact h
    · have q : cy_ml y m = 28 := by simp [cy_ml, e, g]
      rw [q] at h; exact h
  · refine pk_eq m 3 (fun e3 => ?_) (fun e3 => ?_)
    · have q : cy_ml y m = 30 := by simp [cy_ml, e3]
      rw [q] at h; exact h
    refine pk_eq m 5 (fun e5 => ?_) (fun e5 => ?_)
    · have q : cy_ml y m = 30 := by simp [cy_ml, e5]
      rw [q] at h; exact h
    refine pk_eq m 8 (fun e8 => ?_) (fun e8 => ?_)
    · have q : cy_ml y m = 30 := by simp [cy_ml, e8]
      rw [q] at h; exact h
    refine pk_eq m 10 (fun e10 => ?_) (fun e10 => ?_)
    · have q : cy_ml y m = 30 := by simp [cy_ml, e10]
      rw [q] at h; exact h
    have q : cy_ml y m = 31 := by simp [cy_ml, e, e3, e5, e8, e10]
    rw [q] at h; exact h
theorem cy_monthStart {post : Int32 → Prop} {x z : Int32} {y m : Nat} (hx : x = nI y) (hz : z = nI m) (hy : y < 20) (hm : m < 13) (h : post (nI (cy_ms y m))) : wpX_monthStart post () x z := by
  subst hx hz
  refine cy_yearStart rfl (by omega) ?_
  refine pk_loop (σ := Unit) (fun n i _ => wX_monthStart_7 post (nI y) (nI m) n (nI (cy_ms y i)) (nI i)) (fun _ _ => True) m 0 () (by omega) trivial ?_ ?_
  · intro n _ _
    exact pk_le m m (fun _ => h) (fun z => absurd z (by omega))
  · intro n i _ hi _ hw
    exact pk_le m i (fun z => absurd z (by omega)) (fun _ => cy_monthLength rfl rfl (by omega) (by omega) (nm_r (nI_add _ _) (nm_r (nI_1 i) (hw () trivial))))
theorem cy_monthOf {post : Int32 → Prop} {x z : Int32} {d y : Nat} (hx : x = nI d) (hz : z = nI y) (hy : y < 20) (h0 : cy_ys y ≤ d) (h1 : d < cy_ys (y + 1)) (h : ∀ m, m < 12 → cy_ms y m ≤ d → d < cy_ms y (m + 1) → post (nI m)) : wpX_monthOf post () x z := by
  subst hx hz
  obtain ⟨m, m1, m2, m3⟩ := cy_mex hy h0 h1
  have hp := h m m1 m2 m3
  have hb := cy_msb y hy (m + 1) (by omega)
  refine pk_loop (σ := Unit) (fun n i _ => wX_monthOf_2 post (nI d) (nI y) n (nI i)) (fun _ _ => True) m 0 () (by omega) trivial ?_ ?_
  · intro n _ _
    refine pk_le 11 m (fun _ => hp) (fun z => cy_monthStart rfl (nI_1 m) hy (by omega) ?_)
    exact pk_lt d (cy_ms y (m + 1)) (fun _ => hp) (fun z => absurd z (by omega))
  · intro n i _ hi _ hw
    have hm : cy_ms y (i + 1) ≤ cy_ms y m := cy_ms_mono y (by omega)
    refine pk_le 11 i (fun z => absurd z (by omega)) (fun z => cy_monthStart rfl (nI_1 i) hy (by omega) ?_)
    exact pk_lt d (cy_ms y (i + 1)) (fun z => absurd z (by omega)) (fun _ => nm_r (nI_1 i) (hw () trivial))
theorem cy_wdI {d : Nat} (hd : d < 100000) : (nI d + 5) - (nI d + 5) / 7 * 7 = nI ((d + 5) % 7) := by
  rw [show (5 : Int32) = nI 5 from rfl, show (7 : Int32) = nI 7 from rfl, nI_add, pk_rem (by omega) (by omega) (by omega)]
theorem cy_weekdayOf {post : Int32 → Prop} {x : Int32} {d : Nat} (hx : x = nI d) (hd : d < 100000) (h : post (nI ((d + 5) % 7))) : wpX_weekdayOf post () x := by
  subst hx
  exact ⟨by decide, by rw [cy_wdI hd]; exact h⟩
theorem cy_bits {post : Int32 → Prop} {x : Int32} (h : ∀ c, c ≤ 32 → post (nI c)) : wpX_bits post () x := by
  have main : ∀ n c i, 32 < n + i → c ≤ i → i ≤ 32 → wX_bits_4 post x n (nI c) (nI i) := by
    intro n
    induction n with
    | zero => intro c i h1 _ h2; omega
    | succ n ih =>
      intro c i h1 h2 h3
      refine pk_le 32 i (fun z => h c (by omega)) (fun z => ?_)
      refine nm_r (e' := nI (c + (cy_bt x i).toNat)) ?_ (nm_r (nI_1 i) (ih _ _ (by omega) ?_ (by omega)))
      · rw [cy_ub x z, cy_b_n, nI_add]
      · cases cy_bt x i <;> simp <;> omega
  exact ⟨33, main 33 0 0 (by omega) (by omega) (by omega)⟩
end
section
/-! a month's days as bits: only the weekdays count (no set of days, no ordinal) -/
def cy_pass (uw d : Nat) : Bool := decide (uw = 0) || uw.testBit ((d + 5) % 7)
theorem cy_wm43 {s k e uw : Nat} {ff ws od ex km kk rd md : Int32} {a1 a2 a3 : Nat → Int32} {a4 : Nat → Int64} {post : Int32 → Prop} {len g : Nat} (hl : len ≤ 31) (hg : g < 7) (h : ∀ mk, (∀ j, j < 32 → cy_bt mk j = decide (j % 7 = g ∧ j < len)) → post mk) :
    ∀ (n c : Nat) (mk : Int32), 40 < n + c → c % 7 = g → c ≤ 37 → (∀ j, j < 32 → cy_bt mk j = decide (j < c ∧ j % 7 = g ∧ j < len)) → wX_weekdayMask_43 post (nI len) (nI s) ff (nI k) 0 0 0 ws od 0 0 (nI e) ex 0 0 (nI uw) 0 km kk rd md a1 a2 a3 a4 n mk (nI c) := by
  intro n
  induction n with
  | zero => intro c mk h1 _ h2; omega
  | succ n ih =>
    intro c mk h1 h2 h3 h4
    refine pk_le len c (fun z => h mk (fun j hj => ?_)) (fun z => ?_)
    · rw [h4 j hj]
      exact decide_eq_decide.mpr ⟨fun q => q.2, fun q => ⟨by omega, q⟩⟩
    · refine nm_e (nm_r (nI_add c 7) (ih (c + 7) _ (by omega) (by omega) (by omega) (fun j hj => ?_)))
      rw [cy_or, h4 j hj, cy_sh1 c (by omega) j hj, Bool.eq_iff_iff]
      simp only [Bool.or_eq_true, decide_eq_true_eq]
      omega
theorem cy_weekdayMask {s k e uw : Nat} {ff ws od ex km kk rd md : Int32} {a1 a2 a3 : Nat → Int32} {a4 : Nat → Int64} {post : Int32 → Prop} {X Y Z : Int32} {y m v : Nat} (hX : X = nI y) (hY : Y = nI m) (hZ : Z = nI v) (hy : y < 20) (hm : m < 12) (hv : v < 7)
    (h : ∀ mk, (∀ j, j < 32 → cy_bt mk j = decide ((cy_ms y m + j + 5) % 7 = v ∧ j < cy_ml y m)) → post mk) : wpX_weekdayMask post ((nI s), ff, (nI k), 0, 0, 0, ws, od, 0, 0, (nI e), ex, 0, 0, (nI uw), 0, km, kk, rd, md, a1, a2, a3, a4) X Y Z := by
  subst hX hY hZ
  have hb := cy_msb y hy m (by omega)
  have hl := cy_ml_b y m
  unfold wpX_weekdayMask
  dsimp only
  refine cy_monthStart rfl rfl hy (by omega) ?_
  refine cy_monthLength rfl rfl (by omega) (by omega) ?_
  refine cy_weekdayOf rfl (by omega) ⟨by decide, nm_r (e' := nI ((v + 7 - (cy_ms y m + 5) % 7) % 7)) ?_ (br_t rfl ⟨41, ?_⟩)⟩
  · rw [show (7 : Int32) = nI 7 from rfl, nI_add, pk_sub (by omega), pk_rem (by omega) (by omega) (by omega)]
  · refine cy_wm43 (g := (v + 7 - (cy_ms y m + 5) % 7) % 7) (by omega) (by omega) (fun mk hk => h mk (fun j hj => ?_)) 41 _ 0 (by omega) (by omega) (by omega) (fun j hj => ?_)
    · rw [hk j hj]
      exact decide_eq_decide.mpr (by omega)
    · rw [cy_0]
      symm
      exact decide_eq_false (by omega)
theorem cy_mm72 {s k e uw : Nat} {ff ws od ex km kk rd md : Int32} {a1 a2 a3 : Nat → Int32} {a4 : Nat → Int64} {post : Int32 → Prop} {y m : Nat} {x4 : Int32} (hy : y < 20) (hm : m < 12)
    (h : ∀ op, (∀ j, j < 32 → cy_bt op j = decide (uw.testBit ((cy_ms y m + j + 5) % 7) = true ∧ j < cy_ml y m)) → post (x4 &&& op)) :
    ∀ (n i : Nat) (op : Int32), 7 < n + i → i ≤ 7 → (∀ j, j < 32 → cy_bt op j = decide ((cy_ms y m + j + 5) % 7 < i ∧ uw.testBit ((cy_ms y m + j + 5) % 7) = true ∧ j < cy_ml y m)) → wX_monthMask_72 post (nI y) (nI m) x4 (nI s) ff (nI k) 0 0 0 ws od 0 0 (nI e) ex 0 0 (nI uw) 0 km kk rd md a1 a2 a3 a4 n op (nI i) := by
  intro n
  induction n with
  | zero => intro i op h1 h2; omega
  | succ n ih =>
    intro i op h1 h2 h4
    refine pk_le 7 i (fun z => h op (fun j hj => ?_)) (fun z => ?_)
    · rw [h4 j hj]
      exact decide_eq_decide.mpr ⟨fun q => q.2, fun q => ⟨by omega, q⟩⟩
    · refine ek_if (d := uw.testBit i = true) ?_ (fun q => ?_) (fun q => ?_)
      · rw [cy_sb _ (by omega), cy_nt uw (by omega)]
        exact cy_b_1
      · refine cy_weekdayMask rfl rfl rfl hy hm (by omega) (fun mk hk => nm_e (nm_r (nI_1 i) (ih (i + 1) _ (by omega) (by omega) (fun j hj => ?_))))
        rw [cy_or, h4 j hj, hk j hj, Bool.eq_iff_iff]
        simp only [Bool.or_eq_true, decide_eq_true_eq]
        constructor
        · rintro (⟨q1, q2, q3⟩ | ⟨q1, q2⟩)
          · exact ⟨by omega, q2, q3⟩
          · exact ⟨by omega, by rw [q1]; exact q, q2⟩
        · rintro ⟨q1, q2, q3⟩
          by_cases g : (cy_ms y m + j + 5) % 7 = i
          · exact Or.inr ⟨g, q3⟩
          · exact Or.inl ⟨by omega, q2, q3⟩
      · refine nm_r (nI_1 i) (ih (i + 1) op (by omega) (by omega) (fun j hj => ?_))
        rw [h4 j hj]
        refine decide_eq_decide.mpr ⟨fun q2 => ⟨by omega, q2.2⟩, fun q2 => ⟨?_, q2.2⟩⟩
        by_cases g : (cy_ms y m + j + 5) % 7 = i
        · exact absurd (by rw [← g]; exact q2.2.1) q
        · omega
theorem cy_monthMask {s k e uw : Nat} {ff ws od ex km kk rd md : Int32} {a1 a2 a3 : Nat → Int32} {a4 : Nat → Int64} {post : Int32 → Prop} {X Y : Int32} {y m : Nat} (hX : X = nI y) (hY : Y = nI m) (hy : y < 20) (hm : m < 12) (hw : uw < 128)
    (h : ∀ mk, (∀ j, j < cy_ml y m → cy_bt mk j = cy_pass uw (cy_ms y m + j)) → post mk) : wpX_monthMask post ((nI s), ff, (nI k), 0, 0, 0, ws, od, 0, 0, (nI e), ex, 0, 0, (nI uw), 0, km, kk, rd, md, a1, a2, a3, a4) X Y := by
  subst hX hY
  have hl := cy_ml_b y m
  unfold wpX_monthMask
  dsimp only
  refine br_t rfl ?_
  refine cy_monthLength rfl rfl (by omega) (by omega) (nm_e (br_t (by decide) ?_))
  refine pk_eq uw 0 (fun z => h _ (fun j hj => ?_)) (fun z => ⟨8, ?_⟩)
  · rw [cy_full _ (by omega) (by omega) j (by omega)]
    simp [cy_pass, z, hj]
  · refine cy_mm72 hy hm (fun op ho => h _ (fun j hj => ?_)) 8 0 0 (by omega) (by omega) (fun j hj => ?_)
    · rw [cy_and, cy_full _ (by omega) (by omega) j (by omega), ho j (by omega)]
      simp [cy_pass, z, hj]
    · rw [cy_0]
      symm
      exact decide_eq_false (by omega)
/-- the month that is kept -/
def cy_kept (uw : Nat) (km kk : Int32) : Prop := ∀ y m, y < 20 → m < 12 → nI (y * 12 + m) = km → ∀ j, j < cy_ml y m → cy_bt kk j = cy_pass uw (cy_ms y m + j)
theorem cy_kept0 (uw : Nat) (kk : Int32) : cy_kept uw (-1) kk := by
  intro y m hy hm h
  exfalso
  have h1 : ∀ n, n < 240 → nI n ≠ -1 := by decide +kernel
  exact h1 _ (by omega) h
theorem cy_passes {s k e uw : Nat} {ff ws od ex km kk rd md : Int32} {a1 a2 a3 : Nat → Int32} {a4 : Nat → Int64} {post : Int32 → St1 → Prop} {X : Int32} {d : Nat} (hX : X = nI d) (hd : d ≤ 7304) (hw : uw < 128) (hk : cy_kept uw km kk)
    (h : ∀ km kk, cy_kept uw km kk → post (cy_b (cy_pass uw d)) ((nI s), ff, (nI k), 0, 0, 0, ws, od, 0, 0, (nI e), ex, 0, 0, (nI uw), 0, km, kk, rd, md, a1, a2, a3, a4)) : wpX_passes post ((nI s), ff, (nI k), 0, 0, 0, ws, od, 0, 0, (nI e), ex, 0, 0, (nI uw), 0, km, kk, rd, md, a1, a2, a3, a4) X := by
  subst hX
  unfold wpX_passes
  dsimp only
  refine cy_yearOf rfl hd (fun y hy y1 y2 => cy_monthOf rfl rfl hy y1 y2 (fun m hm m1 m2 => ?_))
  have hb := cy_msb y hy m (by omega)
  have hl := cy_ml_b y m
  have m3 : d < cy_ms y m + cy_ml y m := m2
  have em : nI y * 12 + nI m = nI (y * 12 + m) := by rw [show (12 : Int32) = nI 12 from rfl, pk_mul, nI_add]
  have tail : ∀ km kk, cy_kept uw km kk → (∀ j, j < cy_ml y m → cy_bt kk j = cy_pass uw (cy_ms y m + j)) → wX_passes_44 post (nI d) (nI y) (nI m) (nI s) ff (nI k) 0 0 0 ws od 0 0 (nI e) ex 0 0 (nI uw) 0 km kk rd md a1 a2 a3 a4 := by
    intro km kk hk hb
    refine cy_monthStart rfl rfl hy (by omega) ?_
    have q : (kk.toUInt32 >>> ((nI d - nI (cy_ms y m)).toUInt32 &&& Int32.toUInt32 31)).toInt32 &&& 1 = cy_b (cy_pass uw d) := by
      rw [pk_sub m1, cy_ub kk (by omega), hb _ (by omega), show cy_ms y m + (d - cy_ms y m) = d by omega]
    have hp := h km kk hk
    refine ek_if (d := cy_pass uw d = true) (by rw [q]; exact cy_b_1) (fun z => ?_) (fun z => ?_)
    · rw [z] at hp; exact hp
    · rw [Bool.not_eq_true] at z
      rw [z] at hp; exact hp
  refine br_c (fun z => tail km kk hk (hk y m hy hm (by rw [← em]; exact z))) (fun z => nm_r em ?_)
  refine cy_monthMask rfl rfl hy hm hw (fun mk hmk => tail _ mk ?_ hmk)
  intro y' m' hy' hm' he j hj
  have q := (nI_eq (by omega) (by omega)).mp he
  have q1 : y' = y := by omega
  have q2 : m' = m := by omega
  subst q1 q2
  exact hmk j hj
end
section
/-! the series: days are added to the words -/
theorem cy_wanted {s k e uw : Nat} {ff ws od ex km kk rd md : Int32} {a1 a2 a3 : Nat → Int32} {a4 : Nat → Int64} {post : Int32 → Prop} (h : post 1) : wpX_wanted post ((nI s), ff, (nI k), 0, 0, 0, ws, od, 0, 0, (nI e), ex, 0, 0, (nI uw), 0, km, kk, rd, md, a1, a2, a3, a4) := br_t rfl h
theorem cy_stays {s k e uw : Nat} {ff ws od ex km kk rd md : Int32} {a1 a2 a3 : Nat → Int32} {a4 : Nat → Int64} {post : Int32 → Prop} {X Y : Int32} (h : post 1) : wpX_stays post ((nI s), ff, (nI k), 0, 0, 0, ws, od, 0, 0, (nI e), ex, 0, 0, (nI uw), 0, km, kk, rd, md, a1, a2, a3, a4) X Y := br_t rfl h
theorem cy_add {s k e uw : Nat} {ff ws od ex km kk rd md : Int32} {a1 a2 a3 : Nat → Int32} {a4 : Nat → Int64} {post : St1 → Prop} {X : Int32} {z : Int} (hX : X = cy_i z) (h1 : -1000 ≤ z) (h2 : z ≤ 20000) (hs : s ≤ 7304) (he : e ≤ 7304)
    (h : ∀ md b, (∀ D, cy_on b D = true ↔ (cy_on a4 D = true ∨ (s ≤ D ∧ D ≤ e ∧ (D : Int) = z))) → post ((nI s), ff, (nI k), 0, 0, 0, ws, od, 0, 0, (nI e), ex, 0, 0, (nI uw), 0, km, kk, rd, md, a1, a2, a3, b)) : wpX_add post ((nI s), ff, (nI k), 0, 0, 0, ws, od, 0, 0, (nI e), ex, 0, 0, (nI uw), 0, km, kk, rd, md, a1, a2, a3, a4) X := by
  subst hX
  unfold wpX_add
  dsimp only
  refine ek_if (d := z < s) (by rw [cy_iN s]; exact cy_ilt (by omega) (by omega) (by omega) (by omega)) (fun q => h md a4 (fun D => ?_)) (fun q => ?_)
  · exact ⟨fun t => Or.inl t, fun t => t.elim id (fun t => by omega)⟩
  refine ek_if (d := (e : Int) < z) (by rw [cy_iN e]; exact cy_ilt (by omega) (by omega) (by omega) (by omega)) (fun q => h md a4 (fun D => ?_)) (fun q2 => ?_)
  · exact ⟨fun t => Or.inl t, fun t => t.elim id (fun t => by omega)⟩
  obtain ⟨d, rfl⟩ : ∃ d : Nat, z = d := ⟨z.toNat, by omega⟩
  refine br_t rfl (br_f (by decide) ?_)
  have e1 : cy_i (d : Int) = nI d := (cy_iN d).symm
  rw [e1, cy_wd (by omega), cy_bit (by omega), nI_clamp (by omega)]
  refine ⟨pk_in (d / 64) 115 (by omega), pk_in (d / 64) 115 (by omega), nm_e (nm_e (h _ _ (fun D => ?_)))⟩
  rw [cy_on_or, Bool.or_eq_true, decide_eq_true_eq]
  exact ⟨fun t => t.elim Or.inl (fun t => Or.inr (by omega)), fun t => t.elim Or.inl (fun t => Or.inr (by omega))⟩
theorem cy_am11 {s k e uw : Nat} {ff ws od ex km kk rd : Int32} {a1 a2 a3 : Nat → Int32} {post : St1 → Prop} {mk x3 : Int32} {z : Int} {b0 : Nat → Int64} (h1 : -100 ≤ z) (h2 : z ≤ 10000) (hs : s ≤ 7304) (he : e ≤ 7304)
    (h : ∀ md b, (∀ D, cy_on b D = true ↔ (cy_on b0 D = true ∨ (s ≤ D ∧ D ≤ e ∧ ∃ j, j < 32 ∧ cy_bt mk j = true ∧ (D : Int) = z + j))) → post ((nI s), ff, (nI k), 0, 0, 0, ws, od, 0, 0, (nI e), ex, 0, 0, (nI uw), 0, km, kk, rd, md, a1, a2, a3, b)) :
    ∀ (n i : Nat) (x4 md : Int32) (a4 : Nat → Int64), 32 < n + i → i ≤ 32 → (∀ D, cy_on a4 D = true ↔ (cy_on b0 D = true ∨ (s ≤ D ∧ D ≤ e ∧ ∃ j, j < i ∧ cy_bt mk j = true ∧ (D : Int) = z + j))) → wX_addMask_11 post mk (cy_i z) x3 n x4 (nI i) (nI s) ff (nI k) 0 0 0 ws od 0 0 (nI e) ex 0 0 (nI uw) 0 km kk rd md a1 a2 a3 a4 := by
  intro n
  induction n with
  | zero => intro i _ _ _ h1 h2; omega
  | succ n ih =>
    intro i x4 md a4 g1 g2 g3
    refine pk_le 32 i (fun q => h md a4 (fun D => ?_)) (fun q => ?_)
    · rw [show (32 : Nat) = i by omega]; exact g3 D
    · refine ek_if (d := cy_bt mk i = true) (by rw [cy_ub mk q]; exact cy_b_1) (fun p => ?_) (fun p => ?_)
      · refine cy_stays (br_f (by decide) ?_)
        refine cy_add (z := z + i) (by rw [cy_iN i, cy_iadd]) (by omega) (by omega) hs he (fun md b hb => ?_)
        refine nm_e (nm_r (nI_1 i) (ih (i + 1) _ md b (by omega) (by omega) (fun D => ?_)))
        rw [hb D, g3 D]
        constructor
        · rintro ((t | ⟨t1, t2, j, t3, t4, t5⟩) | ⟨t1, t2, t3⟩)
          · exact Or.inl t
          · exact Or.inr ⟨t1, t2, j, by omega, t4, t5⟩
          · exact Or.inr ⟨t1, t2, i, by omega, p, t3⟩
        · rintro (t | ⟨t1, t2, j, t3, t4, t5⟩)
          · exact Or.inl (Or.inl t)
          · by_cases ej : j = i
            · exact Or.inr ⟨t1, t2, by rw [t5, ej]⟩
            · exact Or.inl (Or.inr ⟨t1, t2, j, by omega, t4, t5⟩)
      · refine nm_r (nI_1 i) (ih (i + 1) _ md a4 (by omega) (by omega) (fun D => ?_))
        rw [g3 D]
        constructor
        · rintro (t | ⟨t1, t2, j, t3, t4, t5⟩)
          · exact Or.inl t
          · exact Or.inr ⟨t1, t2, j, by omega, t4, t5⟩
        · rintro (t | ⟨t1, t2, j, t3, t4, t5⟩)
          · exact Or.inl t
          · by_cases ej : j = i
            · exact absurd (by rw [← ej]; exact t4) p
            · exact Or.inr ⟨t1, t2, j, by omega, t4, t5⟩
theorem cy_addMask {s k e uw : Nat} {ff ws od ex km kk rd md : Int32} {a1 a2 a3 : Nat → Int32} {a4 : Nat → Int64} {post : St1 → Prop} {mk X : Int32} {z : Int} (hX : X = cy_i z) (h1 : -100 ≤ z) (h2 : z ≤ 10000) (hs : s ≤ 7304) (he : e ≤ 7304)
    (h : ∀ md b, (∀ D, cy_on b D = true ↔ (cy_on a4 D = true ∨ (s ≤ D ∧ D ≤ e ∧ ∃ j, j < 32 ∧ cy_bt mk j = true ∧ (D : Int) = z + j))) → post ((nI s), ff, (nI k), 0, 0, 0, ws, od, 0, 0, (nI e), ex, 0, 0, (nI uw), 0, km, kk, rd, md, a1, a2, a3, b)) : wpX_addMask post ((nI s), ff, (nI k), 0, 0, 0, ws, od, 0, 0, (nI e), ex, 0, 0, (nI uw), 0, km, kk, rd, md, a1, a2, a3, a4) mk X := by
  subst hX
  unfold wpX_addMask
  dsimp only
  refine cy_bits (fun c hc => ⟨33, cy_am11 h1 h2 hs he h 33 0 0 md a4 (by omega) (by omega) (fun D => ?_)⟩)
  exact ⟨fun t => Or.inl t, fun t => t.elim id (fun t => by obtain ⟨_, _, j, hj, _⟩ := t; omega)⟩
theorem cy_modeq {k a b : Nat} (ha : a % k = 0) (hb : b % k = 0) (h1 : b ≤ a) (h2 : a < b + k) : a = b := by
  have h := Nat.sub_mod_eq_zero_of_mod_eq (show a % k = b % k by rw [ha, hb])
  rw [Nat.mod_eq_of_lt (by omega)] at h
  omega
theorem cy_modadd {k a : Nat} (ha : a % k = 0) : (a + k) % k = 0 := by rw [Nat.add_mod_right, ha]
theorem cy_gd5 {s k e uw : Nat} {ff ws od ex rd : Int32} {a1 a2 a3 : Nat → Int32} {post : St1 → Prop} (hs : s ≤ 7304) (he : e ≤ 7304) (hk1 : 1 ≤ k) (hk2 : k ≤ 20) (hw : uw < 128)
    (h : ∀ km kk md b, (∀ D, D ≤ 7304 → (cy_on b D = true ↔ (s ≤ D ∧ D ≤ e ∧ (D - s) % k = 0 ∧ cy_pass uw D = true))) → post ((nI s), ff, (nI k), 0, 0, 0, ws, od, 0, 0, (nI e), ex, 0, 0, (nI uw), 0, km, kk, rd, md, a1, a2, a3, b)) :
    ∀ (n c : Nat) (km kk md : Int32) (a4 : Nat → Int64), 7400 < n + c → s ≤ c → c ≤ 7400 → (c - s) % k = 0 → cy_kept uw km kk → (∀ D, D ≤ 7304 → (cy_on a4 D = true ↔ (D < c ∧ s ≤ D ∧ D ≤ e ∧ (D - s) % k = 0 ∧ cy_pass uw D = true))) → wX_goDaily_5 post n (nI c) (nI s) ff (nI k) 0 0 0 ws od 0 0 (nI e) ex 0 0 (nI uw) 0 km kk rd md a1 a2 a3 a4 := by
  intro n
  induction n with
  | zero => intro c _ _ _ _ h1 _ h2; omega
  | succ n ih =>
    intro c km kk md a4 g1 g2 g3 g4 g5 g6
    refine pk_lt e c (fun q => h km kk md a4 (fun D hD => ?_)) (fun q => ?_)
    · rw [g6 D hD]
      exact ⟨fun t => t.2, fun t => ⟨by omega, t⟩⟩
    · refine cy_wanted (br_f (by decide) ?_)
      refine cy_passes rfl (by omega) hw g5 (fun km kk hkk => ?_)
      have st : ∀ D, D < c + k → s ≤ D → (D - s) % k = 0 → ¬ D = c → D < c := by
        intro D t1 t2 t3 t4
        rcases Nat.lt_or_ge D c with t | t
        · exact t
        · have := cy_modeq t3 g4 (by omega) (by omega)
          omega
      refine cy_br (fun p => ?_) (fun p => ?_)
      · refine nm_r (nI_add c k) (ih (c + k) km kk md a4 (by omega) (by omega) (by omega) ?_ hkk (fun D hD => ?_))
        · rw [show c + k - s = (c - s) + k by omega]; exact cy_modadd g4
        · rw [g6 D hD]
          constructor
          · rintro ⟨t1, t2⟩
            exact ⟨by omega, t2⟩
          · rintro ⟨t1, t2, t3, t4, t5⟩
            refine ⟨st D t1 t2 t4 (fun z => ?_), t2, t3, t4, t5⟩
            rw [z, p] at t5
            exact absurd t5 (by decide)
      · refine cy_addMask (z := c) (cy_iN c) (by omega) (by omega) hs he (fun md b hb => ?_)
        refine nm_r (nI_add c k) (ih (c + k) km kk md b (by omega) (by omega) (by omega) ?_ hkk (fun D hD => ?_))
        · rw [show c + k - s = (c - s) + k by omega]; exact cy_modadd g4
        · rw [hb D, g6 D hD]
          constructor
          · rintro (⟨t1, t2⟩ | ⟨t1, t2, j, t3, t4, t5⟩)
            · exact ⟨by omega, t2⟩
            · rw [cy_bt1 j t3, decide_eq_true_eq] at t4
              have ed : D = c := by omega
              subst ed
              exact ⟨by omega, t1, t2, g4, p⟩
          · rintro ⟨t1, t2, t3, t4, t5⟩
            by_cases ed : D = c
            · exact Or.inr ⟨t2, t3, 0, by omega, by decide, by omega⟩
            · exact Or.inl ⟨st D t1 t2 t4 ed, t2, t3, t4, t5⟩
theorem cy_goDaily {s k e uw : Nat} {ff ws od ex km kk rd md : Int32} {a1 a2 a3 : Nat → Int32} {a4 : Nat → Int64} {post : St1 → Prop} (hs : s ≤ 7304) (he : e ≤ 7304) (hk1 : 1 ≤ k) (hk2 : k ≤ 20) (hw : uw < 128) (hk : cy_kept uw km kk) (h0 : ∀ D, D ≤ 7304 → cy_on a4 D = false)
    (h : ∀ km kk md b, (∀ D, D ≤ 7304 → (cy_on b D = true ↔ (s ≤ D ∧ D ≤ e ∧ (D - s) % k = 0 ∧ cy_pass uw D = true))) → post ((nI s), ff, (nI k), 0, 0, 0, ws, od, 0, 0, (nI e), ex, 0, 0, (nI uw), 0, km, kk, rd, md, a1, a2, a3, b)) : wpX_goDaily post ((nI s), ff, (nI k), 0, 0, 0, ws, od, 0, 0, (nI e), ex, 0, 0, (nI uw), 0, km, kk, rd, md, a1, a2, a3, a4) := by
  unfold wpX_goDaily
  dsimp only
  refine ⟨7401, cy_gd5 hs he hk1 hk2 hw h 7401 s km kk md a4 (by omega) (by omega) (by omega) ?_ hk (fun D hD => ?_)⟩
  · rw [Nat.sub_self, Nat.zero_mod]
  · rw [h0 D hD]
    exact ⟨fun t => absurd t (by decide), fun t => by omega⟩
end
section
/-! by weeks: the monday of week q is day 7 q - 5 -/
theorem cy_gw32 {s k e uw : Nat} {ff ws od ex rd md : Int32} {a1 a2 a3 : Nat → Int32} {a4 : Nat → Int64} {post : St1 → Prop}
    {J : Int32 → Int32 → Int32 → Int32 → Int32 → Int32 → Int32 → Int32 → Int32 → Int32 → Int32 → Int32 → Int32 → Int32 → Int32 → Int32 → Int32 → Int32 → Int32 → Int32 → Int32 → (Nat → Int32) → (Nat → Int32) → (Nat → Int32) → (Nat → Int64) → Prop}
    {q : Nat} (hs : s ≤ 7304) (he : e ≤ 7304) (hk2 : k ≤ 20) (hw : uw < 128) (hq : 7 * q ≤ 7309)
    (h : ∀ km kk md b, cy_kept uw km kk → (∀ D, cy_on b D = true ↔ (cy_on a4 D = true ∨ (s ≤ D ∧ D ≤ e ∧ (D + 5) / 7 = q ∧ cy_pass uw D = true))) → J (cy_i (7 * ((q + k : Nat) : Int) - 5)) (nI s) ff (nI k) 0 0 0 ws od 0 0 (nI e) ex 0 0 (nI uw) 0 km kk rd md a1 a2 a3 b) :
    ∀ (n i : Nat) (mk km kk : Int32), 7 < n + i → i ≤ 7 → cy_kept uw km kk → (∀ j, j < 32 → cy_bt mk j = decide (j < i ∧ 5 ≤ 7 * q + j ∧ 7 * q + j ≤ 7309 ∧ cy_pass uw (7 * q + j - 5) = true)) → wX_goWeekly_32 post J (cy_i (7 * (q : Int) - 5)) n mk (nI i) (nI s) ff (nI k) 0 0 0 ws od 0 0 (nI e) ex 0 0 (nI uw) 0 km kk rd md a1 a2 a3 a4 := by
  intro n
  induction n with
  | zero => intro i _ _ _ h1 h2; omega
  | succ n ih =>
    intro i mk km kk g1 g2 g3 g4
    refine pk_le 7 i (fun z => ?_) (fun z => ?_)
    · refine cy_addMask rfl (by omega) (by omega) hs he (fun md b hb => ?_)
      refine nm_r (e' := cy_i (7 * ((q + k : Nat) : Int) - 5)) ?_ (h km kk md b g3 (fun D => ?_))
      · rw [show (7 : Int32) = nI 7 from rfl, pk_mul, cy_iN, cy_iadd]
        congr 1
        omega
      · rw [hb D]
        refine or_congr Iff.rfl (and_congr_right (fun t1 => and_congr_right (fun t2 => ?_)))
        constructor
        · rintro ⟨j, t3, t4, t5⟩
          rw [g4 j t3, decide_eq_true_eq] at t4
          have ed : 7 * q + j - 5 = D := by omega
          rw [ed] at t4
          exact ⟨by omega, t4.2.2.2⟩
        · rintro ⟨t3, t4⟩
          refine ⟨(D + 5) % 7, by omega, ?_, by omega⟩
          rw [g4 _ (by omega), decide_eq_true_eq]
          have ed : 7 * q + (D + 5) % 7 - 5 = D := by omega
          rw [ed]
          exact ⟨by omega, by omega, by omega, t4⟩
    · have exx : cy_i (7 * (q : Int) - 5) + nI i = cy_i (7 * (q : Int) - 5 + i) := by rw [cy_iN, cy_iadd]
      have skip : ∀ km kk, cy_kept uw km kk → ¬ (5 ≤ 7 * q + i ∧ 7 * q + i ≤ 7309 ∧ cy_pass uw (7 * q + i - 5) = true) → wX_goWeekly_61 post J (wX_goWeekly_32 post J (cy_i (7 * (q : Int) - 5)) n) (cy_i (7 * (q : Int) - 5)) mk (nI i) (nI s) ff (nI k) 0 0 0 ws od 0 0 (nI e) ex 0 0 (nI uw) 0 km kk rd md a1 a2 a3 a4 := by
        intro km kk g3 hn
        refine br_t rfl (nm_r (nI_1 i) (ih (i + 1) mk km kk (by omega) (by omega) g3 (fun j hj => ?_)))
        rw [g4 j hj]
        refine decide_eq_decide.mpr ⟨fun t => ⟨by omega, t.2⟩, fun t => ⟨?_, t.2⟩⟩
        by_cases ej : j = i
        · rw [ej] at t; exact absurd t.2 hn
        · omega
      refine ek_if (d := 7 * q + i < 5) ?_ (fun p => br_f (by decide) (skip km kk g3 (by omega))) (fun p => ?_)
      · rw [exx, show (0 : Int32) = cy_i 0 from rfl, cy_ilt (by omega) (by omega) (by omega) (by omega)]
        omega
      have ex2 : cy_i (7 * (q : Int) - 5) + nI i = nI (7 * q + i - 5) := by
        rw [exx, cy_iN]
        congr 1
        omega
      refine pk_le (7 * q + i - 5) 7304 (fun p2 => br_t rfl ?_) (fun p2 => br_f (by decide) (skip km kk g3 (by omega))) ex2
      refine cy_passes ex2 p2 hw g3 (fun km kk hkk => cy_br (fun t => skip km kk hkk (fun t2 => ?_)) (fun t => ?_))
      · rw [t] at t2; exact absurd t2.2.2 (by decide)
      · refine br_f (by decide) (nm_e (nm_r (nI_1 i) (ih (i + 1) _ km kk (by omega) (by omega) hkk (fun j hj => ?_))))
        rw [cy_or, g4 j hj, cy_sh1 i (by omega) j hj, Bool.eq_iff_iff]
        simp only [Bool.or_eq_true, decide_eq_true_eq]
        constructor
        · rintro (t1 | t1)
          · exact ⟨by omega, t1.2⟩
          · subst t1
            exact ⟨by omega, by omega, by omega, t⟩
        · intro t1
          by_cases ej : j = i
          · exact Or.inr ej
          · exact Or.inl ⟨by omega, t1.2⟩
theorem cy_gw13 {s k e uw : Nat} {ff ws od ex rd : Int32} {a1 a2 a3 : Nat → Int32} {post : St1 → Prop} (hs : s ≤ 7304) (he : e ≤ 7304) (hk1 : 1 ≤ k) (hk2 : k ≤ 20) (hw : uw < 128)
    (h : ∀ km kk md b, (∀ D, D ≤ 7304 → (cy_on b D = true ↔ (s ≤ D ∧ D ≤ e ∧ ((D + 5) / 7 - (s + 5) / 7) % k = 0 ∧ cy_pass uw D = true))) → post ((nI s), ff, (nI k), 0, 0, 0, ws, od, 0, 0, (nI e), ex, 0, 0, (nI uw), 0, km, kk, rd, md, a1, a2, a3, b)) :
    ∀ (n q : Nat) (km kk md : Int32) (a4 : Nat → Int64), 1100 < n + q → (s + 5) / 7 ≤ q → q ≤ 1100 → (q - (s + 5) / 7) % k = 0 → cy_kept uw km kk → (∀ D, D ≤ 7304 → (cy_on a4 D = true ↔ ((D + 5) / 7 < q ∧ s ≤ D ∧ D ≤ e ∧ ((D + 5) / 7 - (s + 5) / 7) % k = 0 ∧ cy_pass uw D = true))) → wX_goWeekly_13 post n (cy_i (7 * (q : Int) - 5)) (nI s) ff (nI k) 0 0 0 ws od 0 0 (nI e) ex 0 0 (nI uw) 0 km kk rd md a1 a2 a3 a4 := by
  intro n
  induction n with
  | zero => intro c _ _ _ _ h1 _ h2; omega
  | succ n ih =>
    intro q km kk md a4 g1 g2 g3 g4 g5 g6
    refine ek_if (d := e + 5 < 7 * q) ?_ (fun p => h km kk md a4 (fun D hD => ?_)) (fun p => ?_)
    · rw [cy_iN e, cy_ilt (by omega) (by omega) (by omega) (by omega)]
      omega
    · rw [g6 D hD]
      exact ⟨fun t => t.2, fun t => ⟨by omega, t⟩⟩
    · refine cy_wanted (br_f (by decide) ⟨8, ?_⟩)
      refine cy_gw32 hs he hk2 hw (by omega) (fun km kk md b hkk hb => ?_) 8 0 0 km kk (by omega) (by omega) g5 (fun j hj => ?_)
      · refine ih (q + k) km kk md b (by omega) (by omega) (by omega) ?_ hkk (fun D hD => ?_)
        · rw [show q + k - (s + 5) / 7 = (q - (s + 5) / 7) + k by omega]; exact cy_modadd g4
        · rw [hb D, g6 D hD]
          constructor
          · rintro (⟨t1, t2⟩ | ⟨t1, t2, t3, t4⟩)
            · exact ⟨by omega, t2⟩
            · exact ⟨by omega, t1, t2, by rw [t3]; exact g4, t4⟩
          · rintro ⟨t1, t2, t3, t4, t5⟩
            rcases Nat.lt_or_ge ((D + 5) / 7) q with t | t
            · exact Or.inl ⟨t, t2, t3, t4, t5⟩
            · have := cy_modeq t4 g4 (by omega) (by omega)
              exact Or.inr ⟨t2, t3, by omega, t5⟩
      · rw [cy_0]
        symm
        exact decide_eq_false (by omega)
theorem cy_goWeekly {s k e uw : Nat} {ff ws od ex km kk rd md : Int32} {a1 a2 a3 : Nat → Int32} {a4 : Nat → Int64} {post : St1 → Prop} (hs : s ≤ 7304) (he : e ≤ 7304) (hk1 : 1 ≤ k) (hk2 : k ≤ 20) (hw : uw < 128) (hk : cy_kept uw km kk) (h0 : ∀ D, D ≤ 7304 → cy_on a4 D = false)
    (h : ∀ km kk md b, (∀ D, D ≤ 7304 → (cy_on b D = true ↔ (s ≤ D ∧ D ≤ e ∧ ((D + 5) / 7 - (s + 5) / 7) % k = 0 ∧ cy_pass uw D = true))) → post ((nI s), ff, (nI k), 0, 0, 0, ws, od, 0, 0, (nI e), ex, 0, 0, (nI uw), 0, km, kk, rd, md, a1, a2, a3, b)) : wpX_goWeekly post ((nI s), ff, (nI k), 0, 0, 0, ws, od, 0, 0, (nI e), ex, 0, 0, (nI uw), 0, km, kk, rd, md, a1, a2, a3, a4) := by
  unfold wpX_goWeekly
  dsimp only
  refine cy_weekdayOf rfl (by omega) (nm_r (e' := cy_i (7 * (((s + 5) / 7 : Nat) : Int) - 5)) ?_ ⟨1101, ?_⟩)
  · rw [cy_iN, cy_iN, cy_isub]
    congr 1
    omega
  · refine cy_gw13 hs he hk1 hk2 hw h 1101 _ km kk md a4 (by omega) (by omega) (by omega) ?_ hk (fun D hD => ?_)
    · rw [Nat.sub_self, Nat.zero_mod]
    · rw [h0 D hD]
      exact ⟨fun t => absurd t (by decide), fun t => by omega⟩
end
section
/-! the law's own picture: is day d due by the rule -/
def cy_due (f k s e w d : Nat) : Bool := decide (s ≤ d ∧ d ≤ e ∧ d ≤ 7304) && (if f = 0 then decide ((d - s) % k = 0) && cy_pass w d else decide (((d + 5) / 7 - (s + 5) / 7) % k = 0) && (if w = 0 then decide ((d - s) % 7 = 0) else w.testBit ((d + 5) % 7)))
/-- the weekdays that are meant -/
def cy_uw (f s w : Nat) : Nat := if w = 0 ∧ ¬ f = 0 then 2 ^ ((s + 5) % 7) else w
theorem cy_p7 : ∀ j, j < 7 → 2 ^ j < 128 ∧ 2 ^ j ≠ 0 := by decide
theorem cy_uw_lt {f s w : Nat} (hw : w < 128) : cy_uw f s w < 128 := by
  unfold cy_uw
  split
  · exact (cy_p7 _ (by omega)).1
  · exact hw
theorem cy_due0 {k s e w D : Nat} (he : e ≤ 7304) : cy_due 0 k s e w D = true ↔ (s ≤ D ∧ D ≤ e ∧ (D - s) % k = 0 ∧ cy_pass (cy_uw 0 s w) D = true) := by
  have q : cy_uw 0 s w = w := by simp [cy_uw]
  rw [q]
  simp only [cy_due, if_true, Bool.and_eq_true, decide_eq_true_eq]
  exact ⟨fun t => ⟨t.1.1, t.1.2.1, t.2.1, t.2.2⟩, fun t => ⟨⟨t.1, t.2.1, by omega⟩, t.2.2.1, t.2.2.2⟩⟩
theorem cy_due1 {k s e w D : Nat} (he : e ≤ 7304) : cy_due 1 k s e w D = true ↔ (s ≤ D ∧ D ≤ e ∧ ((D + 5) / 7 - (s + 5) / 7) % k = 0 ∧ cy_pass (cy_uw 1 s w) D = true) := by
  have q : s ≤ D → ((if w = 0 then decide ((D - s) % 7 = 0) else w.testBit ((D + 5) % 7)) = cy_pass (cy_uw 1 s w) D) := by
    intro hs
    by_cases z : w = 0
    · have u : cy_uw 1 s w = 2 ^ ((s + 5) % 7) := by simp [cy_uw, z]
      rw [if_pos z, u]
      unfold cy_pass
      rw [decide_eq_false (cy_p7 ((s + 5) % 7) (by omega)).2, Bool.false_or, Nat.testBit_two_pow]
      exact decide_eq_decide.mpr (by omega)
    · have u : cy_uw 1 s w = w := by simp [cy_uw, z]
      rw [if_neg z, u]
      simp [cy_pass, z]
  simp only [cy_due, Nat.one_ne_zero, if_false, Bool.and_eq_true, decide_eq_true_eq]
  constructor
  · intro t
    exact ⟨t.1.1, t.1.2.1, t.2.1, by rw [← q t.1.1]; exact t.2.2⟩
  · intro t
    exact ⟨⟨t.1, t.2.1, by omega⟩, t.2.2.1, by rw [q t.1]; exact t.2.2.2⟩
def cy_ok (s e f k w : Nat) : Prop := s ≤ 7304 ∧ e ≤ 7304 ∧ f < 2 ∧ 1 ≤ k ∧ k ≤ 20 ∧ w < 128
theorem cy_or00 (w : Nat) : ((0 : Int32) ||| 0) ||| nI w = nI w := by
  apply cy_ext
  intro i _
  rw [cy_or, cy_or, cy_0, Bool.false_or, Bool.false_or]
theorem cy_fillIn {s e f k w x : Nat} {od um ud uv uo km kk rd md : Int32} {a1 a2 a3 : Nat → Int32} {a4 : Nat → Int64} {post : St1 → Prop} (hs : s ≤ 7304) (hf : f < 2) (hw : w < 128) (h : post ((nI s), (nI f), (nI k), 0, 0, 0, (nI w), od, 0, 0, (nI e), (nI x), 0, 0, (nI (cy_uw f s w)), 0, (-1), kk, rd, md, a1, a2, a3, a4)) : wpX_fillIn post ((nI s), (nI f), (nI k), 0, 0, 0, (nI w), od, 0, 0, (nI e), (nI x), um, ud, uv, uo, km, kk, rd, md, a1, a2, a3, a4) := by
  unfold wpX_fillIn
  dsimp only
  refine pk_lt f 2 (fun _ => ?_) (fun z => absurd z (by omega))
  refine ek_if (d := w = 0) (by rw [cy_or00, ← nI_0]; exact nI_eq (by omega) (by omega)) (fun z => ?_) (fun z => ?_)
  · refine pk_eq f 0 (fun g => ?_) (fun g => ?_)
    · have q : cy_uw f s w = w := by simp [cy_uw, g]
      rw [q] at h
      exact h
    · refine pk_eq f 1 (fun g1 => ?_) (fun g1 => absurd g1 (by omega))
      refine cy_weekdayOf rfl (by omega) (nm_r (cy_sh1n _ (by omega)) ?_)
      have q : cy_uw f s w = 2 ^ ((s + 5) % 7) := by simp [cy_uw, g, z]
      rw [q] at h
      exact h
  · have q : cy_uw f s w = w := by simp [cy_uw, z]
    rw [q] at h
    exact h
/-- the days kept beside the rule: M says in (some true), out (some false) or none -/
def cy_ent (x : Nat) (a1 a2 : Nat → Int32) (M : Nat → Option Bool) : Prop :=
  (∀ j, j < x → ∃ d b, d ≤ 7304 ∧ a1 j = nI d ∧ a2 j = cy_b b ∧ M d = some b) ∧ (∀ i j, i < x → j < x → a1 i = a1 j → i = j) ∧ (∀ d b, M d = some b → d ≤ 7304 ∧ ∃ j, j < x ∧ a1 j = nI d)
def cy_fin (M : Nat → Option Bool) (f k s e w D : Nat) : Bool := (M D).getD (cy_due f k s e w D)
theorem cy_p93 {s k e uw x : Nat} {ff ws od km kk rd md : Int32} {a1 a2 a3 : Nat → Int32} {post : St1 → Prop} {M : Nat → Option Bool} {b0 : Nat → Int64} (hx : x ≤ 12) (hE : cy_ent x a1 a2 M)
    (h : ∀ b, (∀ D, D ≤ 7304 → cy_on b D = (M D).getD (cy_on b0 D)) → post ((nI s), ff, (nI k), 0, 0, 0, ws, od, 0, 0, (nI e), (nI x), 0, 0, (nI uw), 0, km, kk, rd, md, a1, a2, a3, b)) :
    ∀ (n i : Nat) (a4 : Nat → Int64), 12 < n + i → i ≤ x → (∀ D, D ≤ 7304 → ((∀ j, j < i → ¬ a1 j = nI D) → cy_on a4 D = cy_on b0 D) ∧ (∀ j, j < i → a1 j = nI D → M D = some (cy_on a4 D))) → wX_prepare_93 post (nI s) ff (nI k) 0 0 0 ws od 0 0 (nI e) (nI x) 0 0 (nI uw) 0 km kk rd md n (nI i) a1 a2 a3 a4 := by
  intro n
  induction n with
  | zero => intro i _ h1 h2; omega
  | succ n ih =>
    intro i a4 g1 g2 g3
    refine pk_le x i (fun z => h a4 (fun D hD => ?_)) (fun z => ?_)
    · have ex : x = i := by omega
      cases em : M D with
      | none =>
        refine ((g3 D hD).1 (fun j hj q => ?_)).trans rfl
        obtain ⟨d, b, d1, d2, _, d4⟩ := hE.1 j (by omega)
        rw [d2] at q
        have := (nI_eq (by omega) (by omega)).mp q
        rw [this, em] at d4
        exact absurd d4 (by simp)
      | some b =>
        obtain ⟨_, j, j1, j2⟩ := hE.2.2 D b em
        have t := (g3 D hD).2 j (by omega) j2
        rw [em] at t
        exact (Option.some.inj t).symm.trans rfl
    · obtain ⟨d, b, d1, d2, d3, d4⟩ := hE.1 i z
      refine ⟨pk_in i 12 (by omega), nm_r (e' := nI d) (by rw [nI_clamp (by omega)]; exact d2) (nm_e ⟨pk_in i 12 (by omega), ?_⟩)⟩
      rw [cy_wd (by omega), cy_bit (by omega), nI_clamp (show d / 64 < 2 ^ 31 by omega), nI_clamp (show i < 2 ^ 31 by omega), d3]
      have step : ∀ a4' : Nat → Int64, (∀ D, cy_on a4' D = if D = d then b else cy_on a4 D) → wX_prepare_93 post (nI s) ff (nI k) 0 0 0 ws od 0 0 (nI e) (nI x) 0 0 (nI uw) 0 km kk rd md n (nI (i + 1)) a1 a2 a3 a4' := by
        intro a4' ha
        refine ih (i + 1) a4' (by omega) (by omega) (fun D hD => ⟨fun q => ?_, fun j hj q => ?_⟩)
        · have nd : ¬ D = d := by
            intro t
            exact q i (by omega) (by rw [t]; exact d2)
          rw [ha D, if_neg nd]
          exact (g3 D hD).1 (fun j hj => q j (by omega))
        · by_cases ej : j = i
          · rw [ej, d2] at q
            have t := (nI_eq (by omega) (by omega)).mp q
            rw [ha D, ← t, if_pos rfl]
            exact d4
          · have nd : ¬ D = d := by
              intro t
              rw [t, ← d2] at q
              exact ej (hE.2.1 j i (by omega) z q)
            rw [ha D, if_neg nd]
            exact (g3 D hD).2 j (by omega) q
      refine cy_br (fun p => ⟨pk_in (d / 64) 115 (by omega), pk_in (d / 64) 115 (by omega), nm_e (nm_r (nI_1 i) (step _ (fun D => ?_)))⟩) (fun p => ⟨pk_in (d / 64) 115 (by omega), pk_in (d / 64) 115 (by omega), nm_e (nm_r (nI_1 i) (step _ (fun D => ?_)))⟩)
      · rw [cy_on_clr]
        by_cases t : D = d
        · rw [if_pos t, decide_eq_true t, p]; simp
        · rw [if_neg t, decide_eq_false t]; simp
      · rw [cy_on_or]
        by_cases t : D = d
        · rw [if_pos t, decide_eq_true t, p]; simp
        · rw [if_neg t, decide_eq_false t]; simp
theorem cy_p20 {s e f k w x : Nat} {od um ud uv uo km kk : Int32} {a1 a2 a3 : Nat → Int32} {post : St1 → Prop} {M : Nat → Option Bool} (ok : cy_ok s e f k w) (hx : x ≤ 12) (hE : cy_ent x a1 a2 M)
    (h : ∀ um ud uv uo km kk md b, (∀ D, D ≤ 7304 → cy_on b D = cy_fin M f k s e w D) → post ((nI s), (nI f), (nI k), 0, 0, 0, (nI w), od, 0, 0, (nI e), (nI x), um, ud, uv, uo, km, kk, 1, md, a1, a2, a3, b)) :
    ∀ (n i : Nat) (a4 : Nat → Int64), 115 < n + i → i ≤ 115 → (∀ j, j < i → a4 j = 0) → wX_prepare_20 post (nI s) (nI f) (nI k) 0 0 0 (nI w) od 0 0 (nI e) (nI x) um ud uv uo km kk 1 0 n (nI i) a1 a2 a3 a4 := by
  obtain ⟨hs, he, hf, hk1, hk2, hw⟩ := ok
  have hu : cy_uw f s w < 128 := cy_uw_lt hw
  intro n
  induction n with
  | zero => intro i _ h1 h2; omega
  | succ n ih =>
    intro i a4 g1 g2 g3
    refine pk_le 115 i (fun z => ?_) (fun z => ?_)
    · refine cy_fillIn hs hf hw ?_
      have h0 : ∀ D, D ≤ 7304 → cy_on a4 D = false := by
        intro D hD
        unfold cy_on
        rw [g3 _ (by omega), cy_l0]
      have fin : ∀ (km kk md : Int32) (b0 : Nat → Int64), (∀ D, D ≤ 7304 → cy_on b0 D = cy_due f k s e w D) → ∃ fu, wX_prepare_93 post (nI s) (nI f) (nI k) 0 0 0 (nI w) od 0 0 (nI e) (nI x) 0 0 (nI (cy_uw f s w)) 0 km kk 1 md fu 0 a1 a2 a3 b0 := by
        intro km kk md b0 hb
        refine ⟨13, cy_p93 hx hE (fun b hb2 => h _ _ _ _ _ _ _ _ (fun D hD => ?_)) 13 0 b0 (by omega) (by omega) (fun D hD => ⟨fun _ => rfl, fun j hj => absurd hj (by omega)⟩)⟩
        rw [hb2 D hD, hb D hD]
        rfl
      refine pk_eq f 0 (fun g => ?_) (fun g => ?_)
      · refine cy_goDaily hs he hk1 hk2 hu (cy_kept0 _ _) h0 (fun km kk md b hb => fin km kk md b (fun D hD => ?_))
        rw [Bool.eq_iff_iff, hb D hD]
        subst g
        exact (cy_due0 he).symm
      · refine pk_eq f 1 (fun g1 => ?_) (fun g1 => absurd g1 (by omega))
        refine cy_goWeekly hs he hk1 hk2 hu (cy_kept0 _ _) h0 (fun km kk md b hb => fin km kk md b (fun D hD => ?_))
        rw [Bool.eq_iff_iff, hb D hD]
        subst g1
        exact (cy_due1 he).symm
    · refine ⟨pk_in i 115 (by omega), nm_e (nm_r (nI_1 i) (ih (i + 1) _ (by omega) (by omega) (fun j hj => ?_)))⟩
      rw [nI_clamp (by omega)]
      by_cases e : j = i
      · rw [e, pk_uLs]
      · rw [pk_uLn e]; exact g3 j (by omega)
theorem cy_prepare {s e f k w x : Nat} {od um ud uv uo km kk rd md : Int32} {a1 a2 a3 : Nat → Int32} {a4 : Nat → Int64} {post : St1 → Prop} {M : Nat → Option Bool} (ok : cy_ok s e f k w) (hx : x ≤ 12) (hE : cy_ent x a1 a2 M) (hR : ¬ rd = 0 → ∀ D, D ≤ 7304 → cy_on a4 D = cy_fin M f k s e w D)
    (h : ∀ um ud uv uo km kk rd md b, (∀ D, D ≤ 7304 → cy_on b D = cy_fin M f k s e w D) → post ((nI s), (nI f), (nI k), 0, 0, 0, (nI w), od, 0, 0, (nI e), (nI x), um, ud, uv, uo, km, kk, rd, md, a1, a2, a3, b)) : wpX_prepare post ((nI s), (nI f), (nI k), 0, 0, 0, (nI w), od, 0, 0, (nI e), (nI x), um, ud, uv, uo, km, kk, rd, md, a1, a2, a3, a4) := by
  unfold wpX_prepare
  dsimp only
  refine br_c (fun _ => ⟨116, ?_⟩) (fun z => h _ _ _ _ _ _ _ _ _ (hR z))
  exact cy_p20 ok hx hE (fun um ud uv uo km kk md b hb => h _ _ _ _ _ _ _ _ b hb) 116 0 a4 (by omega) (by omega) (fun j hj => absurd hj (by omega))
end
section
/-! how many: counting over an interval -/
def cy_num (P : Nat → Bool) (a : Nat) : Nat → Nat
  | 0 => 0
  | n + 1 => cy_num P a n + (P (a + n)).toNat
theorem cy_num_le (P : Nat → Bool) (a n : Nat) : cy_num P a n ≤ n := by
  induction n with
  | zero => exact Nat.le_refl _
  | succ n ih =>
    show cy_num P a n + (P (a + n)).toNat ≤ n + 1
    have := Bool.toNat_le (P (a + n))
    omega
theorem cy_num_add (P : Nat → Bool) (a m n : Nat) : cy_num P a (m + n) = cy_num P a m + cy_num P (a + m) n := by
  induction n with
  | zero => rfl
  | succ n ih =>
    show cy_num P a (m + n) + (P (a + (m + n))).toNat = cy_num P a m + (cy_num P (a + m) n + (P (a + m + n)).toNat)
    rw [ih, Nat.add_assoc a m n, Nat.add_assoc]
theorem cy_num_congr {P Q : Nat → Bool} {a b : Nat} (n : Nat) (h : ∀ j, j < n → P (a + j) = Q (b + j)) : cy_num P a n = cy_num Q b n := by
  induction n with
  | zero => rfl
  | succ n ih =>
    show cy_num P a n + (P (a + n)).toNat = cy_num Q b n + (Q (b + n)).toNat
    rw [ih (fun j hj => h j (by omega)), h n (by omega)]
theorem cy_num_0 {P : Nat → Bool} {a : Nat} (n : Nat) (h : ∀ j, j < n → P (a + j) = false) : cy_num P a n = 0 := by
  induction n with
  | zero => rfl
  | succ n ih =>
    show cy_num P a n + (P (a + n)).toNat = 0
    rw [ih (fun j hj => h j (by omega)), h n (by omega)]
    rfl
theorem cy_longBits {post : Int32 → Prop} {w : Int64} (h : post (nI (cy_num (cy_lb w) 0 64))) : wpX_longBits post () w := by
  refine pk_loop (σ := Unit) (fun n i _ => wX_longBits_4 post w n (nI (cy_num (cy_lb w) 0 i)) (nI i)) (fun _ _ => True) 64 0 () (by omega) trivial ?_ ?_
  · intro n _ _
    exact pk_le 64 64 (fun _ => h) (fun z => absurd z (by omega))
  · intro n i _ hi _ hw
    refine pk_le 64 i (fun z => absurd z (by omega)) (fun _ => nm_r (e' := nI (cy_num (cy_lb w) 0 (i + 1))) ?_ (nm_r (nI_1 i) (hw () trivial)))
    rw [cy_lint w hi, cy_b_n, nI_add]
    show _ = nI (cy_num (cy_lb w) 0 i + (cy_lb w (0 + i)).toNat)
    rw [Nat.zero_add]
theorem cy_word (a4 : Nat → Int64) (i : Nat) {n : Nat} (hn : n ≤ 64) : cy_num (cy_lb (a4 i)) 0 n = cy_num (cy_on a4) (64 * i) n := by
  refine cy_num_congr n (fun j hj => ?_)
  unfold cy_on
  rw [show (64 * i + j) / 64 = i by omega, show (64 * i + j) % 64 = 0 + j by omega]
theorem cy_restN (w : Int64) {r : Nat} (hr : r < 64) : cy_num (cy_lb (w &&& (((1 : Int64) <<< ((nI r).toInt64 &&& 63)) - 1))) 0 64 = cy_num (cy_lb w) 0 r := by
  have q := cy_num_add (cy_lb (w &&& (((1 : Int64) <<< ((nI r).toInt64 &&& 63)) - 1))) 0 r (64 - r)
  rw [show r + (64 - r) = 64 by omega] at q
  rw [q, cy_num_0 (64 - r) (fun j hj => ?_), Nat.add_zero]
  · refine cy_num_congr r (fun j hj => ?_)
    rw [cy_lrest w hr (by omega), decide_eq_true (by omega), Bool.and_true]
  · rw [cy_lrest w hr (by omega), decide_eq_false (by omega), Bool.and_false]
theorem cy_daysBefore {s e f k w x : Nat} {od um ud uv uo km kk rd md : Int32} {a1 a2 a3 : Nat → Int32} {a4 : Nat → Int64} {post : Int32 → Prop} {X : Int32} {d : Nat} (hX : X = nI d) (hd : d ≤ 7305) (h : post (nI (cy_num (cy_on a4) 0 d))) : wpX_daysBefore post ((nI s), (nI f), (nI k), 0, 0, 0, (nI w), od, 0, 0, (nI e), (nI x), um, ud, uv, uo, km, kk, rd, md, a1, a2, a3, a4) X := by
  subst hX
  unfold wpX_daysBefore
  dsimp only
  refine pk_loop (σ := Unit) (fun n i _ => wX_daysBefore_4 post (nI d) (nI s) (nI f) (nI k) 0 0 0 (nI w) od 0 0 (nI e) (nI x) um ud uv uo km kk rd md a1 a2 a3 a4 n (nI (cy_num (cy_on a4) 0 (64 * i))) (nI i)) (fun _ _ => True) (d / 64) 0 () (by omega) trivial ?_ ?_
  · intro n _ _
    refine pk_le (d / 64) (d / 64) (fun _ => ?_) (fun z => absurd z (by omega)) (hx := cy_wd (by omega))
    refine pk_eq (d % 64) 0 (fun g => cy_longBits ?_) (fun g => ⟨pk_in (d / 64) 115 (by omega) (cy_wd (by omega)), cy_longBits ?_⟩) (hx := cy_bit (by omega))
    · rw [nI_add, cy_num_0 64 (fun j _ => cy_l0 _), Nat.add_zero, show 64 * (d / 64) = d by omega]
      exact h
    · rw [cy_wd (by omega), cy_bit (by omega), nI_clamp (by omega), cy_restN _ (by omega), cy_word a4 _ (by omega), nI_add]
      have q := cy_num_add (cy_on a4) 0 (64 * (d / 64)) (d % 64)
      rw [Nat.zero_add, show 64 * (d / 64) + d % 64 = d by omega] at q
      rw [← q]
      exact h
  · intro n i _ hi _ hw
    refine pk_le (d / 64) i (fun z => absurd z (by omega)) (fun _ => ⟨pk_in i 115 (by omega), ?_⟩) (hx := cy_wd (by omega))
    rw [nI_clamp (by omega)]
    refine cy_longBits (nm_r (e' := nI (cy_num (cy_on a4) 0 (64 * (i + 1)))) ?_ (nm_r (nI_1 i) (hw () trivial)))
    rw [nI_add, cy_word a4 i (by omega), show 64 * (i + 1) = 64 * i + 64 by omega, cy_num_add, Nat.zero_add]
theorem cy_between {s e f k w x : Nat} {od um ud uv uo km kk rd md : Int32} {a1 a2 a3 : Nat → Int32} {a4 : Nat → Int64} {post : Int32 → St1 → Prop} {X Y : Int32} {a b : Nat} {M : Nat → Option Bool} (ok : cy_ok s e f k w) (hx : x ≤ 12) (hE : cy_ent x a1 a2 M) (hR : ¬ rd = 0 → ∀ D, D ≤ 7304 → cy_on a4 D = cy_fin M f k s e w D)
    (hX : X = nI a) (hY : Y = nI b) (hab : a ≤ b) (hb : b ≤ 7304)
    (h : ∀ um ud uv uo km kk rd md c, (∀ D, D ≤ 7304 → cy_on c D = cy_fin M f k s e w D) → post (nI (cy_num (cy_fin M f k s e w) a (b + 1 - a))) ((nI s), (nI f), (nI k), 0, 0, 0, (nI w), od, 0, 0, (nI e), (nI x), um, ud, uv, uo, km, kk, rd, md, a1, a2, a3, c)) : wpX_between post ((nI s), (nI f), (nI k), 0, 0, 0, (nI w), od, 0, 0, (nI e), (nI x), um, ud, uv, uo, km, kk, rd, md, a1, a2, a3, a4) X Y := by
  subst hX hY
  unfold wpX_between
  dsimp only
  refine cy_badDay rfl (by omega) (br_t rfl (cy_badDay rfl hb (br_t rfl (pk_le a b (fun _ => ?_) (fun z => absurd z (by omega))))))
  refine cy_prepare ok hx hE hR (fun um ud uv uo km kk rd md c hc => ?_)
  refine cy_daysBefore rfl (by omega) (cy_daysBefore (nI_1 b) (by omega) ?_)
  have hp := h um ud uv uo km kk rd md c hc
  have q := cy_num_add (cy_on c) 0 a (b + 1 - a)
  rw [Nat.zero_add, show a + (b + 1 - a) = b + 1 by omega] at q
  have q2 : cy_num (cy_on c) a (b + 1 - a) = cy_num (cy_fin M f k s e w) a (b + 1 - a) := cy_num_congr _ (fun j hj => hc _ (by omega))
  show post (nI (cy_num (cy_on c) 0 (b + 1)) - nI (cy_num (cy_on c) 0 a)) ((nI s), (nI f), (nI k), 0, 0, 0, (nI w), od, 0, 0, (nI e), (nI x), um, ud, uv, uo, km, kk, rd, md, a1, a2, a3, c)
  rw [pk_sub (by omega), q, Nat.add_sub_cancel_left, q2]
  exact hp
theorem cy_nb (b : Bool) : narrow .boolean (.int (cy_b b)) = .int (cy_b b) := by cases b <;> rfl
theorem cy_vnb (b : Bool) : vp_nar .boolean (cy_b b) = cy_b b := by cases b <;> rfl
theorem cy_occurs {s e f k w x : Nat} {od um ud uv uo km kk rd md : Int32} {a1 a2 a3 : Nat → Int32} {a4 : Nat → Int64} {post : Int32 → St1 → Prop} {X : Int32} {d : Nat} {M : Nat → Option Bool} (ok : cy_ok s e f k w) (hx : x ≤ 12) (hE : cy_ent x a1 a2 M) (hR : ¬ rd = 0 → ∀ D, D ≤ 7304 → cy_on a4 D = cy_fin M f k s e w D)
    (hX : X = nI d) (hd : d ≤ 7304)
    (h : ∀ um ud uv uo km kk rd md c, (∀ D, D ≤ 7304 → cy_on c D = cy_fin M f k s e w D) → post (cy_b (cy_fin M f k s e w d)) ((nI s), (nI f), (nI k), 0, 0, 0, (nI w), od, 0, 0, (nI e), (nI x), um, ud, uv, uo, km, kk, rd, md, a1, a2, a3, c)) : wpX_occurs post ((nI s), (nI f), (nI k), 0, 0, 0, (nI w), od, 0, 0, (nI e), (nI x), um, ud, uv, uo, km, kk, rd, md, a1, a2, a3, a4) X := by
  subst hX
  unfold wpX_occurs
  dsimp only
  refine cy_badDay rfl hd (br_t rfl ?_)
  refine cy_prepare ok hx hE hR (fun um ud uv uo km kk rd md c hc => ?_)
  unfold wpX_isIn
  dsimp only
  refine ⟨pk_in (d / 64) 115 (by omega) (cy_wd (by omega)), ?_⟩
  rw [cy_wd (by omega), cy_bit (by omega), nI_clamp (by omega)]
  have hp := h um ud uv uo km kk rd md c hc
  have q : cy_lb (c (d / 64)) (d % 64) = cy_fin M f k s e w d := hc d hd
  refine ek_if (d := cy_fin M f k s e w d = true) (by rw [cy_ltest _ (by omega), q]) (fun t => ?_) (fun t => ?_)
  · rw [t] at hp
    exact ⟨cy_nb true, hp⟩
  · rw [Bool.not_eq_true] at t
    rw [t] at hp
    exact ⟨cy_nb false, hp⟩
/-! the law's own methods -/
theorem cy_dueM {post : Int32 → Prop} {s e f k w d : Nat} {X : Int32} (ok : cy_ok s e f k w) (hX : X = nI d) (hd : d < 10000) (h : post (cy_b (cy_due f k s e w d))) : wpL_due post () (nI f) (nI k) (nI s) (nI e) (nI w) X := by
  subst hX
  obtain ⟨hs, he, hf, hk1, hk2, hw⟩ := ok
  have pt : cy_due f k s e w d = true → post 1 := fun q => by rw [q] at h; exact h
  have pf : cy_due f k s e w d = false → post 0 := fun q => by rw [q] at h; exact h
  have tb : nI w >>> (((nI d + 5) - (nI d + 5) / 7 * 7) &&& 31) &&& 1 = cy_b (w.testBit ((d + 5) % 7)) := by
    rw [cy_wdI (by omega), cy_sb _ (by omega), cy_nt _ (by omega)]
  refine pk_lt d s (fun z => pf ?_) (fun z1 => ?_)
  · unfold cy_due; rw [decide_eq_false (by omega), Bool.false_and]
  refine pk_lt e d (fun z => pf ?_) (fun z2 => ?_)
  · unfold cy_due; rw [decide_eq_false (by omega), Bool.false_and]
  refine pk_lt d 0 (fun z => absurd z (by omega)) (fun z3 => ?_)
  refine pk_le d 7304 (fun z4 => ?_) (fun z => pf ?_)
  rotate_left
  · unfold cy_due; rw [decide_eq_false (by omega), Bool.false_and]
  have dd : decide (s ≤ d ∧ d ≤ e ∧ d ≤ 7304) = true := decide_eq_true ⟨z1, z2, z4⟩
  refine pk_eq f 0 (fun z5 => ⟨nI_ne0 (by omega) (by omega), ?_⟩) (fun z5 => ⟨by decide, by decide, nm_r (e' := nI ((d + 5) / 7 - (s + 5) / 7)) ?_ ⟨nI_ne0 (by omega) (by omega), ?_⟩⟩)
  · refine pk_eq ((d - s) % k) 0 (fun z6 => ?_) (fun z6 => pf ?_) (hx := by rw [pk_sub z1, pk_rem (by omega) (by omega) (by omega)]) (ha := by have := Nat.mod_le (d - s) k; omega)
    · refine pk_eq w 0 (fun z7 => pt ?_) (fun z7 => ⟨by decide, ?_⟩)
      · simp [cy_due, dd, z5, z6, cy_pass, z7]
      · rw [tb]
        refine cy_br (fun t => pf ?_) (fun t => pt ?_)
        · simp [cy_due, z5, cy_pass, z7, t]
        · simp [cy_due, z5, z6, cy_pass, t, z1, z2, z4]
    · simp [cy_due, z5, z6]
  · rw [show (5 : Int32) = nI 5 from rfl, show (7 : Int32) = nI 7 from rfl, nI_add, nI_add, pk_div (by omega) (by omega) (by omega), pk_div (by omega) (by omega) (by omega), pk_sub (by omega)]
  · refine pk_eq (((d + 5) / 7 - (s + 5) / 7) % k) 0 (fun z6 => ?_) (fun z6 => pf ?_) (hx := by rw [pk_rem (by omega) (by omega) (by omega)]) (ha := by have := Nat.mod_le ((d + 5) / 7 - (s + 5) / 7) k; omega)
    · refine pk_eq w 0 (fun z7 => ⟨by decide, ?_⟩) (fun z7 => ⟨by decide, ?_⟩)
      · refine pk_eq ((d - s) % 7) 0 (fun z8 => pt ?_) (fun z8 => pf ?_) (hx := by rw [show (7 : Int32) = nI 7 from rfl, pk_sub z1, pk_rem (by omega) (by omega) (by omega)])
        · simp [cy_due, z5, z6, z7, z8, z1, z2, z4]
        · simp [cy_due, z5, z7, z8]
      · rw [tb]
        refine cy_br (fun t => pf ?_) (fun t => pt ?_)
        · simp [cy_due, z5, z7, t]
        · simp [cy_due, z5, z6, z7, t, z1, z2, z4]
    · simp [cy_due, z5, z6]
theorem cy_count {post : Int32 → Prop} {s e f k w a b : Nat} (ok : cy_ok s e f k w) (hab : a ≤ b) (hb : b ≤ 7304) (h : post (nI (cy_num (cy_due f k s e w) a (b + 1 - a)))) : wpL_count post () (nI f) (nI k) (nI s) (nI e) (nI w) (nI a) (nI b) := by
  refine pk_loop (σ := Unit) (fun n i _ => wL_count_7 post (nI f) (nI k) (nI s) (nI e) (nI w) (nI b) n (nI (cy_num (cy_due f k s e w) a i)) (nI (a + i))) (fun _ _ => True) (b + 1 - a) 0 () (by omega) trivial ?_ ?_
  · intro n _ _
    exact pk_lt b (a + (b + 1 - a)) (fun _ => h) (fun z => absurd z (by omega))
  · intro n i _ hi _ hw
    have t := hw () trivial
    refine pk_lt b (a + i) (fun z => absurd z (by omega)) (fun z => cy_dueM ok rfl (by omega) (cy_br (fun p => nm_r (nI_1 _) ?_) (fun p => nm_r (nI_1 _) (nm_r (nI_1 _) ?_))))
    · have q : cy_num (cy_due f k s e w) a (i + 1) = cy_num (cy_due f k s e w) a i := by
        show _ + (cy_due f k s e w (a + i)).toNat = _
        rw [p]; rfl
      rw [q] at t
      exact t
    · have q : cy_num (cy_due f k s e w) a (i + 1) = cy_num (cy_due f k s e w) a i + 1 := by
        show _ + (cy_due f k s e w (a + i)).toNat = _
        rw [p]; rfl
      rw [q] at t
      exact t
end
section
/-! the calls that change the rule -/
theorem cy_start {s e f k w x : Nat} {od um ud uv uo km kk rd md : Int32} {a1 a2 a3 : Nat → Int32} {a4 : Nat → Int64} {post : Int32 → St1 → Prop} {d : Nat} (hd : d ≤ 7304) (h : post (nI ((d + 5) % 7)) ((nI d), (nI f), (nI k), 0, 0, 0, (nI w), od, 0, 0, (nI e), (nI x), um, ud, uv, uo, km, kk, 0, md, a1, a2, a3, a4)) : wpX_start post ((nI s), (nI f), (nI k), 0, 0, 0, (nI w), od, 0, 0, (nI e), (nI x), um, ud, uv, uo, km, kk, rd, md, a1, a2, a3, a4) (nI d) := by
  unfold wpX_start
  dsimp only
  exact cy_badDay rfl hd (br_t rfl (cy_weekdayOf rfl (by omega) h))
theorem cy_frequency {s e f k w x : Nat} {od um ud uv uo km kk rd md : Int32} {a1 a2 a3 : Nat → Int32} {a4 : Nat → Int64} {post : Int32 → St1 → Prop} {f' k' : Nat} (hf : f' < 2) (hk1 : 1 ≤ k') (hk2 : k' ≤ 20) (h : post 0 ((nI s), (nI f'), (nI k'), 0, 0, 0, (nI w), od, 0, 0, (nI e), (nI x), um, ud, uv, uo, km, kk, 0, md, a1, a2, a3, a4)) : wpX_frequency post ((nI s), (nI f), (nI k), 0, 0, 0, (nI w), od, 0, 0, (nI e), (nI x), um, ud, uv, uo, km, kk, rd, md, a1, a2, a3, a4) (nI f') (nI k') := by
  unfold wpX_frequency
  dsimp only
  exact pk_lt f' 0 (fun z => absurd z (by omega)) (fun _ => pk_lt 3 f' (fun z => absurd z (by omega)) (fun _ => pk_lt k' 1 (fun z => absurd z (by omega)) (fun _ => pk_le k' 20 (fun _ => h) (fun z => absurd z (by omega)))))
theorem cy_w128 : ∀ v, v < 128 → (nI v ||| 128) &&& 127 = nI v := by decide +kernel
theorem cy_weekDays {s e f k w x : Nat} {od um ud uv uo km kk rd md : Int32} {a1 a2 a3 : Nat → Int32} {a4 : Nat → Int64} {post : Int32 → St1 → Prop} {v g : Nat} (hv : v < 128) (hg : g < 4) (h : ∀ c, c ≤ 32 → post (nI c) ((nI s), (nI f), (nI k), 0, 0, 0, (nI v), (nI g), 0, 0, (nI e), (nI x), um, ud, uv, uo, km, kk, 0, md, a1, a2, a3, a4)) : wpX_weekDays post ((nI s), (nI f), (nI k), 0, 0, 0, (nI w), od, 0, 0, (nI e), (nI x), um, ud, uv, uo, km, kk, rd, md, a1, a2, a3, a4) (nI v ||| 128) (nI g) := by
  unfold wpX_weekDays
  dsimp only
  refine br_f ?_ (pk_le g 5 (fun _ => nm_r (cy_w128 v hv) (cy_bits (fun c hc => h c hc))) (fun z => absurd z (by omega)))
  rw [cy_iN g, show (-5 : Int32) = cy_i (-5) from rfl, cy_ilt (by omega) (by omega) (by omega) (by omega)]
  omega
theorem cy_limit {s e f k w x : Nat} {od um ud uv uo km kk rd md : Int32} {a1 a2 a3 : Nat → Int32} {a4 : Nat → Int64} {post : Int32 → St1 → Prop} {d : Nat} (hd : d ≤ 7304) (h : post 0 ((nI s), (nI f), (nI k), 0, 0, 0, (nI w), od, 0, 0, (nI d), (nI x), um, ud, uv, uo, km, kk, 0, md, a1, a2, a3, a4)) : wpX_limit post ((nI s), (nI f), (nI k), 0, 0, 0, (nI w), od, 0, 0, (nI e), (nI x), um, ud, uv, uo, km, kk, rd, md, a1, a2, a3, a4) 0 (nI d) := by
  unfold wpX_limit
  dsimp only
  exact pk_lt 0 0 (fun z => absurd z (by omega)) (fun _ => pk_le 0 500 (fun _ => cy_badDay rfl hd (br_t rfl h)) (fun z => absurd z (by omega)))
/-! days in and out -/
def cy_put (M : Nat → Option Bool) (d : Nat) (v : Option Bool) : Nat → Option Bool := fun D => if D = d then v else M D
theorem cy_put_s (M : Nat → Option Bool) (d : Nat) (v : Option Bool) : cy_put M d v d = v := if_pos rfl
theorem cy_put_n (M : Nat → Option Bool) {d D : Nat} (v : Option Bool) (h : ¬ D = d) : cy_put M d v D = M D := if_neg h
theorem cy_ent_put {x p d : Nat} {a1 a2 : Nat → Int32} {M : Nat → Option Bool} {b : Bool} (hE : cy_ent x a1 a2 M) (hd : d ≤ 7304) (hp : p ≤ x) (h3 : p < x → a1 p = nI d) (h2 : ∀ j, j < p → ¬ a1 j = nI d) {x' : Nat} (hx' : x' = if p = x then x + 1 else x) :
    cy_ent x' (upd a1 p (nI d)) (upd a2 p (cy_b b)) (cy_put M d (some b)) := by
  obtain ⟨E1, E2, E3⟩ := hE
  have hne : ∀ j, j < x → ¬ j = p → ¬ a1 j = nI d := by
    intro j hj hjp q
    rcases Nat.lt_or_ge p x with z | z
    · exact hjp (E2 j p hj z (by rw [q, h3 z]))
    · exact h2 j (by omega) q
  have hjx : ∀ j, j < x' → ¬ j = p → j < x := by
    intro j hj hjp
    by_cases e : p = x
    · rw [if_pos e] at hx'; omega
    · rw [if_neg e] at hx'; omega
  have hxx : ∀ j, j < x → j < x' := by
    intro j hj
    by_cases e : p = x
    · rw [if_pos e] at hx'; omega
    · rw [if_neg e] at hx'; omega
  have hpx : p < x' := by
    by_cases e : p = x
    · rw [if_pos e] at hx'; omega
    · rw [if_neg e] at hx'; omega
  refine ⟨fun j hj => ?_, fun i j hi hj q => ?_, fun D b' hb => ?_⟩
  · by_cases e : j = p
    · subst e
      exact ⟨d, b, hd, pk_us, pk_us, cy_put_s _ _ _⟩
    · obtain ⟨d', b', q1, q2, q3, q4⟩ := E1 j (hjx j hj e)
      refine ⟨d', b', q1, by rw [pk_un e]; exact q2, by rw [pk_un e]; exact q3, ?_⟩
      rw [cy_put_n _ _ (fun z => hne j (hjx j hj e) e (by rw [q2, z]))]
      exact q4
  · by_cases ei : i = p
    · by_cases ej : j = p
      · rw [ei, ej]
      · rw [ei, pk_us, pk_un ej] at q
        exact absurd q.symm (hne j (hjx j hj ej) ej)
    · by_cases ej : j = p
      · rw [ej, pk_us, pk_un ei] at q
        exact absurd q (hne i (hjx i hi ei) ei)
      · rw [pk_un ei, pk_un ej] at q
        exact E2 i j (hjx i hi ei) (hjx j hj ej) q
  · by_cases e : D = d
    · rw [e]
      exact ⟨hd, p, hpx, pk_us⟩
    · rw [cy_put_n _ _ e] at hb
      obtain ⟨q0, j, q1, q2⟩ := E3 D b' hb
      refine ⟨q0, j, hxx j q1, ?_⟩
      have ej : ¬ j = p := by
        intro z
        rw [z] at q1 q2
        rw [h3 q1] at q2
        exact e ((nI_eq (by omega) (by omega)).mp q2).symm
      rw [pk_un ej]
      exact q2
theorem cy_ent_del {x p d : Nat} {a1 a2 : Nat → Int32} {M : Nat → Option Bool} (hE : cy_ent (x + 1) a1 a2 M) (hp : p < x + 1) (h3 : a1 p = nI d) (hd : d ≤ 7304) :
    cy_ent x (upd a1 p (a1 x)) (upd a2 p (vp_nar .boolean (a2 x))) (cy_put M d none) := by
  obtain ⟨E1, E2, E3⟩ := hE
  have hne : ∀ j, j < x + 1 → ¬ j = p → ∀ d', a1 j = nI d' → ¬ d' = d := by
    intro j hj hjp d' q z
    exact hjp (E2 j p hj hp (by rw [q, h3, z]))
  refine ⟨fun j hj => ?_, fun i j hi hj q => ?_, fun D b' hb => ?_⟩
  · by_cases e : j = p
    · subst e
      obtain ⟨d', b', q1, q2, q3, q4⟩ := E1 x (by omega)
      refine ⟨d', b', q1, by rw [pk_us]; exact q2, by rw [pk_us, q3, cy_vnb], ?_⟩
      rw [cy_put_n _ _ (hne x (by omega) (by omega) d' q2)]
      exact q4
    · obtain ⟨d', b', q1, q2, q3, q4⟩ := E1 j (by omega)
      refine ⟨d', b', q1, by rw [pk_un e]; exact q2, by rw [pk_un e]; exact q3, ?_⟩
      rw [cy_put_n _ _ (hne j (by omega) e d' q2)]
      exact q4
  · by_cases ei : i = p
    · by_cases ej : j = p
      · rw [ei, ej]
      · rw [ei, pk_us, pk_un ej] at q
        have := E2 x j (by omega) (by omega) q
        omega
    · by_cases ej : j = p
      · rw [ej, pk_us, pk_un ei] at q
        have := E2 i x (by omega) (by omega) q
        omega
      · rw [pk_un ei, pk_un ej] at q
        exact E2 i j (by omega) (by omega) q
  · by_cases e : D = d
    · rw [e, cy_put_s] at hb
      exact absurd hb (by simp)
    · rw [cy_put_n _ _ e] at hb
      obtain ⟨q0, j, q1, q2⟩ := E3 D b' hb
      have ej : ¬ j = p := by
        intro z
        rw [z, h3] at q2
        exact e ((nI_eq (by omega) (by omega)).mp q2).symm
      by_cases ex : j = x
      · refine ⟨q0, p, by omega, ?_⟩
        rw [pk_us, ← ex]
        exact q2
      · refine ⟨q0, j, by omega, ?_⟩
        rw [pk_un ej]
        exact q2
theorem cy_find (a1 : Nat → Int32) (x : Nat) (v : Int32) : ∃ p, p ≤ x ∧ (p < x → a1 p = v) ∧ ∀ j, j < p → ¬ a1 j = v := by
  obtain ⟨p, h1, h2⟩ := pk_least (fun p => p = x ∨ a1 p = v) ⟨x, Or.inl rfl⟩
  refine ⟨p, ?_, fun z => h1.elim (fun t => absurd t (by omega)) id, fun j hj t => h2 j hj (Or.inr t)⟩
  rcases Nat.lt_or_ge x p with z | z
  · exact absurd (Or.inl rfl) (h2 x z)
  · exact z
theorem cy_x11 {s e f k w x : Nat} {od um ud uv uo km kk rd md : Int32} {a1 a2 a3 : Nat → Int32} {a4 : Nat → Int64} {post : Int32 → St1 → Prop} {v hw : Int32} {p : Nat} (hx : x ≤ 12) (hp : p ≤ x) (h3 : p < x → a1 p = v) (h2 : ∀ j, j < p → ¬ a1 j = v) (h : wX_extra_35 post v hw (nI p) (nI s) (nI f) (nI k) 0 0 0 (nI w) od 0 0 (nI e) (nI x) um ud uv uo km kk rd md a1 a2 a3 a4) : ∃ n, wX_extra_11 post v hw (nI s) (nI f) (nI k) 0 0 0 (nI w) od 0 0 (nI e) (nI x) um ud uv uo km kk rd md a1 a2 a3 a4 n 0 := by
  refine pk_loop (σ := Unit) (fun n i _ => wX_extra_11 post v hw (nI s) (nI f) (nI k) 0 0 0 (nI w) od 0 0 (nI e) (nI x) um ud uv uo km kk rd md a1 a2 a3 a4 n (nI i)) (fun _ _ => True) p 0 () (by omega) trivial ?_ ?_
  · intro n _ _
    refine pk_le x p (fun _ => h) (fun z => ⟨pk_in p 12 (by omega), br_t ?_ h⟩)
    rw [nI_clamp (by omega)]
    exact h3 z
  · intro n i _ hi _ hw
    refine pk_le x i (fun z => absurd z (by omega)) (fun z => ⟨pk_in i 12 (by omega), br_f ?_ (nm_r (nI_1 i) (hw () trivial))⟩)
    rw [nI_clamp (by omega)]
    exact h2 i hi
theorem cy_extraPut {s e f k w x : Nat} {od um ud uv uo km kk rd md : Int32} {a1 a2 a3 : Nat → Int32} {a4 : Nat → Int64} {post : Int32 → St1 → Prop} {M : Nat → Option Bool} {X H : Int32} {d : Nat} {b : Bool} (hX : X = nI d) (hH : H = if b = true then 1 else 2) (hd : d ≤ 7304) (hx : x ≤ 11) (hE : cy_ent x a1 a2 M)
    (h : ∀ x' a1 a2, x' = (if (M d).isSome = true then x else x + 1) → 1 ≤ x' → cy_ent x' a1 a2 (cy_put M d (some b)) → post (nI x') ((nI s), (nI f), (nI k), 0, 0, 0, (nI w), od, 0, 0, (nI e), (nI x'), um, ud, uv, uo, km, kk, 0, md, a1, a2, a3, a4)) : wpX_extra post ((nI s), (nI f), (nI k), 0, 0, 0, (nI w), od, 0, 0, (nI e), (nI x), um, ud, uv, uo, km, kk, rd, md, a1, a2, a3, a4) X H := by
  subst hX
  obtain ⟨p, p1, p2, p3⟩ := cy_find a1 x (nI d)
  unfold wpX_extra
  dsimp only
  refine cy_badDay rfl hd (br_t rfl (cy_x11 (by omega) p1 p2 p3 ?_))
  have hs : (M d).isSome = true ↔ p < x := by
    constructor
    · intro q
      obtain ⟨b', hb⟩ := Option.isSome_iff_exists.mp q
      obtain ⟨_, j, q1, q2⟩ := hE.2.2 d b' hb
      rcases Nat.lt_or_ge p x with z | z
      · exact z
      · exact absurd q2 (p3 j (by omega))
    · intro q
      obtain ⟨d', b', q1, q2, q3, q4⟩ := hE.1 p q
      have q5 := p2 q
      rw [q2] at q5
      rw [(nI_eq (by omega) (by omega)).mp q5] at q4
      rw [q4]; rfl
  have h63 : wX_extra_63 post (nI d) H (nI p) (nI s) (nI f) (nI k) 0 0 0 (nI w) od 0 0 (nI e) (nI x) um ud uv uo km kk rd md a1 a2 a3 a4 := by
    have h90 : ∀ x', x' = (if p = x then x + 1 else x) → wX_extra_90 post (nI d) H (nI p) (nI s) (nI f) (nI k) 0 0 0 (nI w) od 0 0 (nI e) (nI x') um ud uv uo km kk rd md a1 a2 a3 a4 := by
      intro x' hx'
      have q1 : x' = (if (M d).isSome = true then x else x + 1) := by
        rw [hx']
        by_cases e : p = x
        · rw [if_pos e, if_neg (fun z => by have := hs.mp z; omega)]
        · rw [if_neg e, if_pos (hs.mpr (by omega))]
      have q2 : 1 ≤ x' := by
        rw [hx']
        split <;> omega
      have hp := h x' _ _ q1 q2 (cy_ent_put (b := b) hE hd p1 p2 p3 hx')
      refine ⟨pk_in p 12 (by omega), nm_e ?_⟩
      rw [nI_clamp (by omega)]
      cases b
      · have hH' : H = 2 := hH
        subst hH'
        exact br_f (by decide) ⟨pk_in p 12 (by omega), nm_e hp⟩
      · have hH' : H = 1 := hH
        subst hH'
        exact br_t rfl ⟨pk_in p 12 (by omega), nm_e hp⟩
    refine pk_eq p 12 (fun z => absurd z (by omega)) (fun _ => pk_eq p x (fun z => nm_r (nI_1 x) (h90 (x + 1) (by rw [if_pos z]))) (fun z => h90 x (by rw [if_neg z])))
  cases b
  · have hH' : H = 2 := hH
    subst hH'
    exact br_f (by decide) (br_t rfl h63)
  · have hH' : H = 1 := hH
    subst hH'
    exact br_t rfl h63
theorem cy_extraDel {s e f k w x : Nat} {od um ud uv uo km kk rd md : Int32} {a1 a2 a3 : Nat → Int32} {a4 : Nat → Int64} {post : Int32 → St1 → Prop} {M : Nat → Option Bool} {X : Int32} {d : Nat} {b : Bool} (hX : X = nI d) (hd : d ≤ 7304) (hx : x + 1 ≤ 12) (hE : cy_ent (x + 1) a1 a2 M) (hM : M d = some b)
    (h : ∀ r a1 a2, cy_ent x a1 a2 (cy_put M d none) → post r ((nI s), (nI f), (nI k), 0, 0, 0, (nI w), od, 0, 0, (nI e), (nI x), um, ud, uv, uo, km, kk, 0, md, a1, a2, a3, a4)) : wpX_extra post ((nI s), (nI f), (nI k), 0, 0, 0, (nI w), od, 0, 0, (nI e), (nI (x + 1)), um, ud, uv, uo, km, kk, rd, md, a1, a2, a3, a4) X 0 := by
  subst hX
  obtain ⟨p, p1, p2, p3⟩ := cy_find a1 (x + 1) (nI d)
  obtain ⟨_, j, q1, q2⟩ := hE.2.2 d b hM
  have hp : p < x + 1 := by
    rcases Nat.lt_or_ge p (x + 1) with z | z
    · exact z
    · exact absurd q2 (p3 j (by omega))
  unfold wpX_extra
  dsimp only
  refine cy_badDay rfl hd (br_t rfl (cy_x11 (x := x + 1) (by omega) p1 p2 p3 ?_))
  refine br_f (by decide) (br_f (by decide) (pk_le (x + 1) p (fun z => absurd z (by omega)) (fun _ => ?_)))
  unfold wpX_forgetExtra
  dsimp only
  refine nm_r (e' := nI x) (nI_pred x) ⟨pk_in x 12 (by omega), pk_in p 12 (by omega), nm_e ⟨pk_in x 12 (by omega), pk_in p 12 (by omega), nm_e ?_⟩⟩
  rw [nI_clamp (by omega), nI_clamp (by omega)]
  exact h _ _ _ (cy_ent_del hE hp (p2 hp) hd)
end
section
/-! the law's two extra days: o is out, i is in -/
def cy_M (o i : Option Nat) (D : Nat) : Option Bool := if i = some D then some true else if o = some D then some false else none
def cy_o : Option Nat → Int32
  | none => -1
  | some d => nI d
def cy_z (o : Option Nat) (P : Nat → Bool) (a n : Nat) : Nat := match o with
  | none => 0
  | some d => if a ≤ d ∧ d < a + n ∧ P d = true then 1 else 0
def cy_c (o i : Option Nat) : Nat := o.isSome.toNat + i.isSome.toNat
theorem cy_z0 (o : Option Nat) (P : Nat → Bool) (a : Nat) : cy_z o P a 0 = 0 := by
  cases o with
  | none => rfl
  | some d =>
    show (if a ≤ d ∧ d < a + 0 ∧ P d = true then 1 else 0) = 0
    rw [if_neg (by omega)]
theorem cy_zs (o : Option Nat) (P : Nat → Bool) (a n : Nat) : cy_z o P a (n + 1) = cy_z o P a n + (if o = some (a + n) then (P (a + n)).toNat else 0) := by
  cases o with
  | none => rfl
  | some d =>
    show (if a ≤ d ∧ d < a + (n + 1) ∧ P d = true then 1 else 0) = (if a ≤ d ∧ d < a + n ∧ P d = true then 1 else 0) + _
    by_cases e : d = a + n
    · subst e
      rw [if_neg (show ¬ (a ≤ a + n ∧ a + n < a + n ∧ P (a + n) = true) by omega), if_pos rfl]
      cases hp : P (a + n)
      · rw [if_neg (by simp)]; rfl
      · rw [if_pos ⟨by omega, by omega, rfl⟩]; rfl
    · rw [if_neg (show ¬ some d = some (a + n) from fun z => e (Option.some.inj z)), Nat.add_zero]
      by_cases g : a ≤ d ∧ d < a + n ∧ P d = true
      · rw [if_pos g, if_pos ⟨g.1, by omega, g.2.2⟩]
      · rw [if_neg g, if_neg (fun z => g ⟨z.1, by omega, z.2.2⟩)]
theorem cy_shift (P : Nat → Bool) (o i : Option Nat) (hd : ∀ d, i = some d → ¬ o = some d) (a n : Nat) :
    cy_num (fun D => (cy_M o i D).getD (P D)) a n + cy_z o P a n = cy_num P a n + cy_z i (fun D => !P D) a n := by
  induction n with
  | zero => rw [cy_z0, cy_z0]; rfl
  | succ n ih =>
    rw [cy_zs, cy_zs]
    show cy_num _ a n + ((cy_M o i (a + n)).getD (P (a + n))).toNat + (cy_z o P a n + _) = cy_num P a n + (P (a + n)).toNat + (cy_z i _ a n + _)
    have key : ((cy_M o i (a + n)).getD (P (a + n))).toNat + (if o = some (a + n) then (P (a + n)).toNat else 0) = (P (a + n)).toNat + (if i = some (a + n) then (!P (a + n)).toNat else 0) := by
      unfold cy_M
      by_cases h1 : i = some (a + n)
      · rw [if_pos h1, if_pos h1, if_neg (hd _ h1)]
        cases P (a + n) <;> rfl
      · rw [if_neg h1, if_neg h1]
        by_cases h2 : o = some (a + n)
        · rw [if_pos h2, if_pos h2]
          cases P (a + n) <;> rfl
        · rw [if_neg h2, if_neg h2]
          rfl
    omega
theorem cy_z_le (o : Option Nat) (P : Nat → Bool) (a n : Nat) : cy_z o P a n ≤ 1 := by
  cases o with
  | none => exact Nat.zero_le _
  | some d =>
    show (if a ≤ d ∧ d < a + n ∧ P d = true then 1 else 0) ≤ 1
    split <;> omega
theorem cy_oeq {o i : Option Nat} (ho : ∀ d, o = some d → d ≤ 7304) (hi : ∀ d, i = some d → d ≤ 7304) : cy_o o = cy_o i ↔ o = i := by
  have hn : ∀ d, d ≤ 7304 → ¬ nI d = -1 := by
    intro d hd z
    have := congrArg Int32.toInt z
    rw [nI_toInt (by omega)] at this
    have h1 : (-1 : Int32).toInt = -1 := by decide
    omega
  cases o with
  | none =>
    cases i with
    | none => exact ⟨fun _ => rfl, fun _ => rfl⟩
    | some d => exact ⟨fun z => absurd z.symm (hn d (hi d rfl)), fun z => absurd z (by simp)⟩
  | some d =>
    cases i with
    | none => exact ⟨fun z => absurd z (hn d (ho d rfl)), fun z => absurd z (by simp)⟩
    | some d' =>
      refine ⟨fun z => ?_, fun z => by rw [z]⟩
      have z' : nI d = nI d' := z
      have h1 := ho d rfl
      have h2 := hi d' rfl
      rw [(nI_eq (by omega) (by omega)).mp z']
theorem cy_Mbd {x : Nat} {a1 a2 : Nat → Int32} {o i : Option Nat} (hE : cy_ent x a1 a2 (cy_M o i)) (hd : ∀ d, i = some d → ¬ o = some d) : (∀ d, o = some d → d ≤ 7304) ∧ (∀ d, i = some d → d ≤ 7304) := by
  constructor
  · intro d h
    have q : cy_M o i d = some false := by
      unfold cy_M
      rw [if_neg (fun z => hd d z h), if_pos h]
    exact (hE.2.2 d _ q).1
  · intro d h
    have q : cy_M o i d = some true := by
      unfold cy_M
      rw [if_pos h]
    exact (hE.2.2 d _ q).1
theorem cy_F1 {o i : Option Nat} {d : Nat} (h : o = some d) (hd : ∀ d, i = some d → ¬ o = some d) : cy_put (cy_M o i) d none = cy_M none i := by
  funext D
  unfold cy_put cy_M
  by_cases e : D = d
  · rw [if_pos e, e, if_neg (fun z => hd d z h), if_neg (by simp)]
  · rw [if_neg e]
    have q : ¬ o = some D := by rw [h]; intro z; exact e (Option.some.inj z).symm
    rw [if_neg q, if_neg (show ¬ (none : Option Nat) = some D by simp)]
theorem cy_F3 {o i : Option Nat} {d : Nat} (h : i = some d) (hd : ∀ d, i = some d → ¬ o = some d) : cy_put (cy_M o i) d none = cy_M o none := by
  funext D
  unfold cy_put cy_M
  by_cases e : D = d
  · rw [if_pos e, e, if_neg (by simp), if_neg (hd d h)]
  · rw [if_neg e]
    have q : ¬ i = some D := by rw [h]; intro z; exact e (Option.some.inj z).symm
    rw [if_neg q, if_neg (show ¬ (none : Option Nat) = some D by simp)]
theorem cy_F2a {i : Option Nat} {d : Nat} (h : i = some d) : cy_put (cy_M none i) d (some false) = cy_M (some d) none := by
  funext D
  unfold cy_put cy_M
  rw [if_neg (show ¬ (none : Option Nat) = some D by simp)]
  by_cases e : D = d
  · rw [if_pos e, e, if_pos rfl, if_neg (by simp)]
  · have q : ¬ i = some D := by rw [h]; intro z; exact e (Option.some.inj z).symm
    rw [if_neg e, if_neg q, if_neg (fun z => e (Option.some.inj z).symm), if_neg (by simp)]
theorem cy_F2b {i : Option Nat} {d : Nat} (h : ¬ i = some d) : cy_put (cy_M none i) d (some false) = cy_M (some d) i := by
  funext D
  unfold cy_put cy_M
  by_cases e : D = d
  · rw [if_pos e, e, if_neg h, if_pos rfl]
  · rw [if_neg e, if_neg (show ¬ (none : Option Nat) = some D by simp), if_neg (show ¬ some d = some D from fun z => e (Option.some.inj z).symm)]
theorem cy_F4a {o : Option Nat} {d : Nat} (h : o = some d) : cy_put (cy_M o none) d (some true) = cy_M none (some d) := by
  funext D
  unfold cy_put cy_M
  by_cases e : D = d
  · rw [if_pos e, e, if_pos rfl]
  · have q : ¬ o = some D := by rw [h]; intro z; exact e (Option.some.inj z).symm
    rw [if_neg e, if_neg (by simp), if_neg q, if_neg (fun z => e (Option.some.inj z).symm), if_neg (by simp)]
theorem cy_F4b {o : Option Nat} {d : Nat} (h : ¬ o = some d) : cy_put (cy_M o none) d (some true) = cy_M o (some d) := by
  funext D
  unfold cy_put cy_M
  by_cases e : D = d
  · rw [if_pos e, e, if_pos rfl]
  · rw [if_neg e, if_neg (show ¬ (none : Option Nat) = some D by simp), if_neg (show ¬ some d = some D from fun z => e (Option.some.inj z).symm)]
theorem cy_S2 (i : Option Nat) (d : Nat) : (cy_M none i d).isSome = true ↔ i = some d := by
  unfold cy_M
  by_cases h : i = some d
  · rw [if_pos h]; exact ⟨fun _ => h, fun _ => rfl⟩
  · rw [if_neg h, if_neg (by simp)]; exact ⟨fun z => absurd z (by simp), fun z => absurd z h⟩
theorem cy_S4 (o : Option Nat) (d : Nat) : (cy_M o none d).isSome = true ↔ o = some d := by
  unfold cy_M
  rw [if_neg (by simp)]
  by_cases h : o = some d
  · rw [if_pos h]; exact ⟨fun _ => h, fun _ => rfl⟩
  · rw [if_neg h]; exact ⟨fun z => absurd z (by simp), fun z => absurd z h⟩
end
section
/-! one turn of the law, behind its call: between and the thirty days -/
theorem cy_458 {s e f k w x t a : Nat} {o i : Option Nat} {od : Int32} {a1 a2 a3 : Nat → Int32} {post : Int32 → Prop} {L kc ks : Nat} {xs : Nat → Int32} {J : Int32 → Int32 → Int32 → Int32 → Int32 → Int32 → Int32 → Int32 → Int32 → Int32 → Int32 → Int32 → Int32 → Int32 → Int32 → Int32 → Int32 → Int32 → Int32 → Int32 → Int32 → Int32 → Int32 → Int32 → Int32 → Int32 → Int32 → Int32 → (Nat → Int32) → (Nat → Int32) → (Nat → Int32) → (Nat → Int64) → Prop}
    (ok : cy_ok s e f k w) (hx : x ≤ 12) (hE : cy_ent x a1 a2 (cy_M o i)) (hd : ∀ d, i = some d → ¬ o = some d) (ha : a ≤ 7100)
    (hJ : ∀ um ud uv uo km kk rd md b, (∀ D, D ≤ 7304 → cy_on b D = cy_fin (cy_M o i) f k s e w D) → J (nI s) (nI e) (nI f) (nI k) (nI w) (cy_o o) (cy_o i) (nI (t + 2)) (nI s) (nI f) (nI k) 0 0 0 (nI w) od 0 0 (nI e) (nI x) um ud uv uo km kk rd md a1 a2 a3 b) :
    ∀ (n r : Nat) (um ud uv uo km kk rd md : Int32) (a4 : Nat → Int64), 30 < n + r → r ≤ 30 → (∀ D, D ≤ 7304 → cy_on a4 D = cy_fin (cy_M o i) f k s e w D) → wL_law_458 post L xs J (nI s) (nI e) (nI f) (nI k) (nI w) (cy_o o) (cy_o i) (nI t) (nI a) kc ks n (nI (a + r)) (nI s) (nI f) (nI k) 0 0 0 (nI w) od 0 0 (nI e) (nI x) um ud uv uo km kk rd md a1 a2 a3 a4 := by
  intro n
  induction n with
  | zero => intro r _ _ _ _ _ _ _ _ _ h1 h2; omega
  | succ n ih =>
    intro r um ud uv uo km kk rd md a4 g1 g2 g3
    obtain ⟨bo, bi⟩ := cy_Mbd hE hd
    refine pk_le (a + 30) (a + r) (fun z => nm_r (nI_add t 2) (hJ _ _ _ _ _ _ _ _ _ g3)) (fun z => ?_) (hx := nI_add a 30)
    have occ : ∀ z0, z0 = cy_b (cy_fin (cy_M o i) f k s e w (a + r)) → wL_law_503 post L xs J (wL_law_458 post L xs J (nI s) (nI e) (nI f) (nI k) (nI w) (cy_o o) (cy_o i) (nI t) (nI a) kc ks n) (nI s) (nI e) (nI f) (nI k) (nI w) (cy_o o) (cy_o i) (nI t) (nI a) (nI (a + r)) z0 kc ks (nI s) (nI f) (nI k) 0 0 0 (nI w) od 0 0 (nI e) (nI x) um ud uv uo km kk rd md a1 a2 a3 a4 := by
      intro z0 hz
      subst hz
      exact cy_occurs ok hx hE (fun _ => g3) rfl (by omega) (fun um ud uv uo km kk rd md c hc => br_t rfl (nm_r (nI_1 _) (ih (r + 1) um ud uv uo km kk rd md c (by omega) (by omega) hc)))
    have oi : (nI (a + r) = cy_o i) ↔ (some (a + r) = i) := cy_oeq (o := some (a + r)) (fun d hd => by rw [← Option.some.inj hd]; omega) bi
    have oo : (nI (a + r) = cy_o o) ↔ (some (a + r) = o) := cy_oeq (o := some (a + r)) (fun d hd => by rw [← Option.some.inj hd]; omega) bo
    refine ek_if oi (fun h1 => occ 1 ?_) (fun h1 => ek_if oo (fun h2 => occ 0 ?_) (fun h2 => cy_dueM ok rfl (by omega) (cy_br (fun p => occ 0 ?_) (fun p => occ 1 ?_))))
    · unfold cy_fin cy_M
      rw [if_pos h1.symm]; rfl
    · unfold cy_fin cy_M
      rw [if_neg (fun z => h1 z.symm), if_pos h2.symm]; rfl
    · unfold cy_fin cy_M
      rw [if_neg (fun z => h1 z.symm), if_neg (fun z => h2 z.symm)]
      show _ = cy_b (cy_due f k s e w (a + r))
      rw [p]; rfl
    · unfold cy_fin cy_M
      rw [if_neg (fun z => h1 z.symm), if_neg (fun z => h2 z.symm)]
      show _ = cy_b (cy_due f k s e w (a + r))
      rw [p]; rfl
theorem cy_420 {s e f k w x t a b : Nat} {o i : Option Nat} {od um ud uv uo km kk rd md : Int32} {a1 a2 a3 : Nat → Int32} {a4 : Nat → Int64} {post : Int32 → Prop} {L kc ks : Nat} {xs : Nat → Int32} {J : Int32 → Int32 → Int32 → Int32 → Int32 → Int32 → Int32 → Int32 → Int32 → Int32 → Int32 → Int32 → Int32 → Int32 → Int32 → Int32 → Int32 → Int32 → Int32 → Int32 → Int32 → Int32 → Int32 → Int32 → Int32 → Int32 → Int32 → Int32 → (Nat → Int32) → (Nat → Int32) → (Nat → Int32) → (Nat → Int64) → Prop} {z0 z1 : Int32}
    (ok : cy_ok s e f k w) (hx : x ≤ 12) (hE : cy_ent x a1 a2 (cy_M o i)) (hd : ∀ d, i = some d → ¬ o = some d) (hR : ¬ rd = 0 → ∀ D, D ≤ 7304 → cy_on a4 D = cy_fin (cy_M o i) f k s e w D) (ha : a ≤ 7100) (hab : a ≤ b) (hb : b ≤ 7304)
    (h0 : z0 = nI (cy_z o (cy_due f k s e w) a (b + 1 - a))) (h1 : z1 = nI (cy_z i (fun D => !cy_due f k s e w D) a (b + 1 - a)))
    (hJ : ∀ um ud uv uo km kk rd md b, (∀ D, D ≤ 7304 → cy_on b D = cy_fin (cy_M o i) f k s e w D) → J (nI s) (nI e) (nI f) (nI k) (nI w) (cy_o o) (cy_o i) (nI (t + 2)) (nI s) (nI f) (nI k) 0 0 0 (nI w) od 0 0 (nI e) (nI x) um ud uv uo km kk rd md a1 a2 a3 b) :
    wL_law_420 post L xs J (nI s) (nI e) (nI f) (nI k) (nI w) (cy_o o) (cy_o i) (nI t) (nI a) (nI b) z0 z1 kc ks (nI s) (nI f) (nI k) 0 0 0 (nI w) od 0 0 (nI e) (nI x) um ud uv uo km kk rd md a1 a2 a3 a4 := by
  subst h0 h1
  refine nm_e (cy_between ok hx hE hR rfl rfl hab hb (fun um ud uv uo km kk rd md c hc => cy_count ok hab hb (br_t ?_ ⟨31, ?_⟩)))
  · have q := cy_shift (cy_due f k s e w) o i hd a (b + 1 - a)
    have q2 : cy_num (cy_fin (cy_M o i) f k s e w) a (b + 1 - a) + cy_z o (cy_due f k s e w) a (b + 1 - a) = cy_num (cy_due f k s e w) a (b + 1 - a) + cy_z i (fun D => !cy_due f k s e w D) a (b + 1 - a) := q
    generalize cy_num (cy_fin (cy_M o i) f k s e w) a (b + 1 - a) = A at q2 ⊢
    generalize cy_num (cy_due f k s e w) a (b + 1 - a) = B at q2 ⊢
    generalize cy_z o (cy_due f k s e w) a (b + 1 - a) = C at q2 ⊢
    generalize cy_z i (fun D => !cy_due f k s e w D) a (b + 1 - a) = E at q2 ⊢
    rw [cy_iN A, cy_iN B, cy_iN C, cy_iN E, cy_isub, cy_iadd]
    congr 1
    omega
  · exact cy_458 ok hx hE hd ha hJ 31 0 um ud uv uo km kk rd md c (by omega) (by omega) hc
theorem cy_neg1 {n : Nat} (h : n < 100000) : (-1 : Int32) < nI n := by
  rw [cy_iN n, show (-1 : Int32) = cy_i (-1) from rfl, cy_ilt (by omega) (by omega) (by omega) (by omega)]
  omega
theorem cy_z_no {d a n : Nat} {P : Nat → Bool} (h : ¬ (a ≤ d ∧ d < a + n ∧ P d = true)) : (0 : Int32) = nI (cy_z (some d) P a n) := by
  show _ = nI (if a ≤ d ∧ d < a + n ∧ P d = true then 1 else 0)
  rw [if_neg h]; rfl
theorem cy_z_yes {d a n : Nat} {P : Nat → Bool} (h : a ≤ d ∧ d < a + n ∧ P d = true) : (1 : Int32) = nI (cy_z (some d) P a n) := by
  show _ = nI (if a ≤ d ∧ d < a + n ∧ P d = true then 1 else 0)
  rw [if_pos h]; rfl
theorem cy_385 {s e f k w x t a b : Nat} {o i : Option Nat} {od um ud uv uo km kk rd md : Int32} {a1 a2 a3 : Nat → Int32} {a4 : Nat → Int64} {post : Int32 → Prop} {L kc ks : Nat} {xs : Nat → Int32} {J : Int32 → Int32 → Int32 → Int32 → Int32 → Int32 → Int32 → Int32 → Int32 → Int32 → Int32 → Int32 → Int32 → Int32 → Int32 → Int32 → Int32 → Int32 → Int32 → Int32 → Int32 → Int32 → Int32 → Int32 → Int32 → Int32 → Int32 → Int32 → (Nat → Int32) → (Nat → Int32) → (Nat → Int32) → (Nat → Int64) → Prop} {z1 : Int32}
    (ok : cy_ok s e f k w) (hx : x ≤ 12) (hE : cy_ent x a1 a2 (cy_M o i)) (hd : ∀ d, i = some d → ¬ o = some d) (hR : ¬ rd = 0 → ∀ D, D ≤ 7304 → cy_on a4 D = cy_fin (cy_M o i) f k s e w D) (ha : a ≤ 7100) (hab : a ≤ b) (hb : b ≤ 7304)
    (h1 : z1 = nI (cy_z i (fun D => !cy_due f k s e w D) a (b + 1 - a)))
    (hJ : ∀ um ud uv uo km kk rd md b, (∀ D, D ≤ 7304 → cy_on b D = cy_fin (cy_M o i) f k s e w D) → J (nI s) (nI e) (nI f) (nI k) (nI w) (cy_o o) (cy_o i) (nI (t + 2)) (nI s) (nI f) (nI k) 0 0 0 (nI w) od 0 0 (nI e) (nI x) um ud uv uo km kk rd md a1 a2 a3 b) :
    wL_law_385 post L xs J (nI s) (nI e) (nI f) (nI k) (nI w) (cy_o o) (cy_o i) (nI t) (nI a) (nI b) z1 kc ks (nI s) (nI f) (nI k) 0 0 0 (nI w) od 0 0 (nI e) (nI x) um ud uv uo km kk rd md a1 a2 a3 a4 := by
  have h420 : ∀ z0, z0 = nI (cy_z o (cy_due f k s e w) a (b + 1 - a)) → wL_law_420 post L xs J (nI s) (nI e) (nI f) (nI k) (nI w) (cy_o o) (cy_o i) (nI t) (nI a) (nI b) z0 z1 kc ks (nI s) (nI f) (nI k) 0 0 0 (nI w) od 0 0 (nI e) (nI x) um ud uv uo km kk rd md a1 a2 a3 a4 :=
    fun z0 h0 => cy_420 ok hx hE hd hR ha hab hb h0 h1 hJ
  obtain ⟨bo, bi⟩ := cy_Mbd hE hd
  clear hJ
  cases o with
  | none => exact br_t (cy_neg1 (by omega)) (h420 0 rfl)
  | some d =>
    have hd := bo d rfl
    exact pk_lt d a (fun z => h420 0 (cy_z_no (by omega))) (fun z => pk_lt b d (fun z2 => h420 0 (cy_z_no (by omega))) (fun z2 => cy_dueM ok rfl (by omega) (cy_br (fun p => h420 0 (cy_z_no (by rw [p]; simp))) (fun p => h420 1 (cy_z_yes ⟨z, by omega, p⟩)))))
theorem cy_326 {s e f k w x t v : Nat} {o i : Option Nat} {od um ud uv uo km kk rd md : Int32} {a1 a2 a3 : Nat → Int32} {a4 : Nat → Int64} {post : Int32 → Prop} {L kc ks : Nat} {xs : Nat → Int32} {J : Int32 → Int32 → Int32 → Int32 → Int32 → Int32 → Int32 → Int32 → Int32 → Int32 → Int32 → Int32 → Int32 → Int32 → Int32 → Int32 → Int32 → Int32 → Int32 → Int32 → Int32 → Int32 → Int32 → Int32 → Int32 → Int32 → Int32 → Int32 → (Nat → Int32) → (Nat → Int32) → (Nat → Int32) → (Nat → Int64) → Prop}
    (ok : cy_ok s e f k w) (hx : x ≤ 12) (hE : cy_ent x a1 a2 (cy_M o i)) (hd : ∀ d, i = some d → ¬ o = some d) (hR : ¬ rd = 0 → ∀ D, D ≤ 7304 → cy_on a4 D = cy_fin (cy_M o i) f k s e w D) (hv : v < 2 ^ 20)
    (hJ : ∀ um ud uv uo km kk rd md b, (∀ D, D ≤ 7304 → cy_on b D = cy_fin (cy_M o i) f k s e w D) → J (nI s) (nI e) (nI f) (nI k) (nI w) (cy_o o) (cy_o i) (nI (t + 2)) (nI s) (nI f) (nI k) 0 0 0 (nI w) od 0 0 (nI e) (nI x) um ud uv uo km kk rd md a1 a2 a3 b) :
    wL_law_326 post L xs J (nI s) (nI e) (nI f) (nI k) (nI w) (cy_o o) (cy_o i) (nI t) (nI v) kc ks (nI s) (nI f) (nI k) 0 0 0 (nI w) od 0 0 (nI e) (nI x) um ud uv uo km kk rd md a1 a2 a3 a4 := by
  obtain ⟨a, ea⟩ : ∃ a, a = v / 8 % 7100 := ⟨_, rfl⟩
  obtain ⟨b, eb⟩ : ∃ b, b = a + v / 512 % 200 := ⟨_, rfl⟩
  have ha : a ≤ 7100 := by omega
  have hab : a ≤ b := by omega
  have hb : b ≤ 7304 := by omega
  have h385 : ∀ z1, z1 = nI (cy_z i (fun D => !cy_due f k s e w D) a (b + 1 - a)) → wL_law_385 post L xs J (nI s) (nI e) (nI f) (nI k) (nI w) (cy_o o) (cy_o i) (nI t) (nI a) (nI b) z1 kc ks (nI s) (nI f) (nI k) 0 0 0 (nI w) od 0 0 (nI e) (nI x) um ud uv uo km kk rd md a1 a2 a3 a4 :=
    fun z1 h1 => cy_385 ok hx hE hd hR ha hab hb h1 hJ
  obtain ⟨bo, bi⟩ := cy_Mbd hE hd
  clear hJ
  refine ⟨by decide, nm_r (e' := nI a) ?_ ⟨by decide, nm_r (e' := nI b) ?_ ?_⟩⟩
  · rw [pk_shrN (by omega) _ 3 (by decide), show (7100 : Int32) = nI 7100 from rfl, pk_rem (by omega) (by omega) (by omega), ea]
  · rw [pk_shrN (by omega) _ 9 (by decide), show (200 : Int32) = nI 200 from rfl, pk_rem (by omega) (by omega) (by omega), nI_add, eb]
  cases i with
  | none => exact br_t (cy_neg1 (by omega)) (h385 0 rfl)
  | some d =>
    have hd := bi d rfl
    exact pk_lt d a (fun z => h385 0 (cy_z_no (by omega))) (fun z => pk_lt b d (fun z2 => h385 0 (cy_z_no (by omega))) (fun z2 => cy_dueM ok rfl (by omega) (cy_br (fun p => h385 1 (cy_z_yes ⟨z, by omega, by rw [p]; rfl⟩)) (fun p => h385 0 (cy_z_no (by rw [p]; simp))))))
end
section
/-! the law's loop -/
def cy_inv (s e f k w x : Nat) (o i : Option Nat) (rd : Int32) (a1 a2 : Nat → Int32) (a4 : Nat → Int64) : Prop :=
  cy_ok s e f k w ∧ x = cy_c o i ∧ cy_ent x a1 a2 (cy_M o i) ∧ (∀ d, i = some d → ¬ o = some d) ∧ (¬ rd = 0 → ∀ D, D ≤ 7304 → cy_on a4 D = cy_fin (cy_M o i) f k s e w D)
theorem cy_c_le (o i : Option Nat) : cy_c o i ≤ 2 := by
  unfold cy_c
  have := Bool.toNat_le o.isSome
  have := Bool.toNat_le i.isSome
  omega
theorem cy_nr {P : Prop} : ¬ (0 : Int32) = 0 → P := fun z => absurd rfl z
/-- a day is put out: whatever was out before is gone already -/
theorem cy_255o {s e f k w x t v d : Nat} {i : Option Nat} {od um ud uv uo km kk rd md X7 : Int32} {a1 a2 a3 : Nat → Int32} {a4 : Nat → Int64} {post : Int32 → Prop} {L kc ks : Nat} {xs : Nat → Int32} {J : Int32 → Int32 → Int32 → Int32 → Int32 → Int32 → Int32 → Int32 → Int32 → Int32 → Int32 → Int32 → Int32 → Int32 → Int32 → Int32 → Int32 → Int32 → Int32 → Int32 → Int32 → Int32 → Int32 → Int32 → Int32 → Int32 → Int32 → Int32 → (Nat → Int32) → (Nat → Int32) → (Nat → Int32) → (Nat → Int64) → Prop}
    (ok : cy_ok s e f k w) (hx : x = cy_c none i) (hE : cy_ent x a1 a2 (cy_M none i)) (hdd : d ≤ 7304)
    (h : ∀ (o i : Option Nat) (x : Nat) (a1 a2 : Nat → Int32), cy_inv s e f k w x o i 0 a1 a2 a4 → wL_law_326 post L xs J (nI s) (nI e) (nI f) (nI k) (nI w) (cy_o o) (cy_o i) (nI t) (nI v) kc ks (nI s) (nI f) (nI k) 0 0 0 (nI w) od 0 0 (nI e) (nI x) um ud uv uo km kk 0 md a1 a2 a3 a4) :
    wL_law_255 post L xs J (nI s) (nI e) (nI f) (nI k) (nI w) X7 (cy_o i) (nI t) (nI 5) (nI v) (nI d) kc ks (nI s) (nI f) (nI k) 0 0 0 (nI w) od 0 0 (nI e) (nI x) um ud uv uo km kk rd md a1 a2 a3 a4 := by
  obtain ⟨_, bi⟩ := cy_Mbd hE (fun d _ => by simp)
  have hc := cy_c_le none i
  refine br_t rfl ?_
  refine cy_extraPut (b := false) rfl rfl hdd (by omega) hE (fun x' a1 a2 q1 q2 hE' => ?_)
  refine pk_le 1 x' (fun _ => br_t rfl ?_) (fun z => absurd z (by omega)) (hb := by rw [q1]; split <;> omega)
  have hi : (nI d = cy_o i) ↔ (some d = i) := cy_oeq (o := some d) (fun d' h' => by rw [← Option.some.inj h']; exact hdd) bi
  refine ek_if hi (fun z => br_t rfl (br_t (hi.mpr z) (h (some d) none x' a1 a2 ⟨ok, ?_, ?_, fun d' z' => absurd z' (by simp), cy_nr⟩))) (fun z => br_f (fun z' => z (hi.mp z')) (h (some d) i x' a1 a2 ⟨ok, ?_, ?_, ?_, cy_nr⟩))
  · rw [q1, if_pos ((cy_S2 i d).mpr z.symm), hx, ← z]; rfl
  · rw [← cy_F2a z.symm]; exact hE'
  · rw [q1, if_neg (fun q => z ((cy_S2 i d).mp q).symm), hx]
    show _ = 1 + i.isSome.toNat
    have : cy_c none i = 0 + i.isSome.toNat := rfl
    omega
  · rw [← cy_F2b (fun q => z q.symm)]; exact hE'
  · intro d' z' z2
    exact z (by rw [z', ← z2])
/-- a day is put in -/
theorem cy_255i {s e f k w x t v d : Nat} {o : Option Nat} {od um ud uv uo km kk rd md X8 : Int32} {a1 a2 a3 : Nat → Int32} {a4 : Nat → Int64} {post : Int32 → Prop} {L kc ks : Nat} {xs : Nat → Int32} {J : Int32 → Int32 → Int32 → Int32 → Int32 → Int32 → Int32 → Int32 → Int32 → Int32 → Int32 → Int32 → Int32 → Int32 → Int32 → Int32 → Int32 → Int32 → Int32 → Int32 → Int32 → Int32 → Int32 → Int32 → Int32 → Int32 → Int32 → Int32 → (Nat → Int32) → (Nat → Int32) → (Nat → Int32) → (Nat → Int64) → Prop}
    (ok : cy_ok s e f k w) (hx : x = cy_c o none) (hE : cy_ent x a1 a2 (cy_M o none)) (hdd : d ≤ 7304)
    (h : ∀ (o i : Option Nat) (x : Nat) (a1 a2 : Nat → Int32), cy_inv s e f k w x o i 0 a1 a2 a4 → wL_law_326 post L xs J (nI s) (nI e) (nI f) (nI k) (nI w) (cy_o o) (cy_o i) (nI t) (nI v) kc ks (nI s) (nI f) (nI k) 0 0 0 (nI w) od 0 0 (nI e) (nI x) um ud uv uo km kk 0 md a1 a2 a3 a4) :
    wL_law_255 post L xs J (nI s) (nI e) (nI f) (nI k) (nI w) (cy_o o) X8 (nI t) (nI 6) (nI v) (nI d) kc ks (nI s) (nI f) (nI k) 0 0 0 (nI w) od 0 0 (nI e) (nI x) um ud uv uo km kk rd md a1 a2 a3 a4 := by
  obtain ⟨bo, _⟩ := cy_Mbd hE (fun d z => absurd z (by simp))
  have hc := cy_c_le o none
  refine br_f (by decide) ?_
  refine cy_extraPut (b := true) rfl rfl hdd (by omega) hE (fun x' a1 a2 q1 q2 hE' => ?_)
  refine pk_le 1 x' (fun _ => br_f (by decide) ?_) (fun z => absurd z (by omega)) (hb := by rw [q1]; split <;> omega)
  have ho : (cy_o o = nI d) ↔ (o = some d) := cy_oeq (i := some d) bo (fun d' h' => by rw [← Option.some.inj h']; exact hdd)
  refine ek_if ho (fun z => br_f (by decide) (br_f ?_ (h none (some d) x' a1 a2 ⟨ok, ?_, ?_, fun d' z' => by simp, cy_nr⟩))) (fun z => br_f (fun z' => z (ho.mp z')) (h o (some d) x' a1 a2 ⟨ok, ?_, ?_, ?_, cy_nr⟩))
  · intro z'
    have hn : cy_o none = cy_o (some d) ↔ none = some d := cy_oeq (fun d' h' => absurd h' (by simp)) (fun d' h' => by rw [← Option.some.inj h']; exact hdd)
    exact absurd (hn.mp z') (by simp)
  · rw [q1, if_pos ((cy_S4 o d).mpr z), hx, z]; rfl
  · rw [← cy_F4a z]; exact hE'
  · rw [q1, if_neg (fun q => z ((cy_S4 o d).mp q)), hx]
    rfl
  · rw [← cy_F4b z]; exact hE'
  · intro d' z' z2
    exact z (by rw [z2, ← z'])
theorem cy_turn {s e f k w x t v op : Nat} {o i : Option Nat} {od um ud uv uo km kk rd md : Int32} {a1 a2 a3 : Nat → Int32} {a4 : Nat → Int64} {post : Int32 → Prop} {L kc ks : Nat} {xs : Nat → Int32} {n : Nat}
    (hop : op < 8) (hv : v < 2 ^ 20) (I : cy_inv s e f k w x o i rd a1 a2 a4) (ht : t < 60) (hL : t + 2 ≤ L) (hL2 : L ≤ 260) (eo : xs t &&& 7 = nI op) (ev : xs (t + 1) &&& 1048575 = nI v)
    (tail : ∀ (s e f k w x : Nat) (o i : Option Nat) (od um ud uv uo km kk rd md : Int32) (a1 a2 a3 : Nat → Int32) (a4 : Nat → Int64), cy_inv s e f k w x o i rd a1 a2 a4 → wL_law_326 post L xs (wL_law_32 post L xs kc ks n) (nI s) (nI e) (nI f) (nI k) (nI w) (cy_o o) (cy_o i) (nI t) (nI v) kc ks (nI s) (nI f) (nI k) 0 0 0 (nI w) od 0 0 (nI e) (nI x) um ud uv uo km kk rd md a1 a2 a3 a4) :
    wL_law_32 post L xs kc ks (n + 1) (nI s) (nI e) (nI f) (nI k) (nI w) (cy_o o) (cy_o i) (nI t) (nI s) (nI f) (nI k) 0 0 0 (nI w) od 0 0 (nI e) (nI x) um ud uv uo km kk rd md a1 a2 a3 a4 := by
  obtain ⟨ok, Ix, IE, Id, IR⟩ := I
  obtain ⟨bo, bi⟩ := cy_Mbd IE Id
  have hc := cy_c_le o i
  obtain ⟨o1, o2, o3, o4, o5, o6⟩ := ok
  refine ek_if (d := L < t + 2) ?_ (fun z => absurd z (by omega)) (fun _ => ?_)
  · rw [show Int32.ofNat L = nI L from rfl, cy_iN L, cy_iN t, show (2 : Int32) = cy_i 2 from rfl, cy_isub, cy_ilt (by omega) (by omega) (by omega) (by omega)]
    omega
  refine pk_le 60 t (fun z => absurd z (by omega)) (fun _ => ⟨pk_in t L (by omega), nm_r (e' := nI op) (by rw [nI_clamp (by omega)]; exact eo) ⟨pk_in (t + 1) L (by omega) (nI_1 t), nm_r (e' := nI v) (by rw [nI_1, nI_clamp (by omega)]; exact ev) ?_⟩⟩)
  refine pk_lt 1 op (fun z1 => ?_) (fun z1 => ?_)
  rotate_left
  · refine ⟨by decide, nm_r (e' := nI (v % 7305)) (by rw [show (7305 : Int32) = nI 7305 from rfl, pk_rem (by omega) (by omega) (by omega)]) (cy_start (by omega) ⟨by decide, br_t (cy_wdI (by omega)).symm ?_⟩)⟩
    exact tail _ _ _ _ _ _ _ _ _ _ _ _ _ _ _ _ _ _ _ _ _ ⟨⟨by omega, o2, o3, o4, o5, o6⟩, Ix, IE, Id, cy_nr⟩
  refine pk_eq op 2 (fun z2 => ?_) (fun z2 => ?_)
  · refine nm_r (e' := nI (v % 2)) (pk_andN (by omega) 1 (by decide)) ⟨by decide, nm_r (e' := nI (1 + v / 2 % 20)) ?_ (cy_frequency (by omega) (by omega) (by omega) (br_t rfl ?_))⟩
    · rw [pk_shrN (by omega) _ 1 (by decide), show (20 : Int32) = nI 20 from rfl, pk_rem (by omega) (by omega) (by omega), show (1 : Int32) = nI 1 from rfl, nI_add]
    · exact tail _ _ _ _ _ _ _ _ _ _ _ _ _ _ _ _ _ _ _ _ _ ⟨⟨o1, o2, by omega, by omega, by omega, o6⟩, Ix, IE, Id, cy_nr⟩
  refine pk_eq op 3 (fun z3 => ?_) (fun z3 => ?_)
  · obtain ⟨w', hw', ew⟩ := pk_andE (nI v &&& (nI v >>> ((7 : Int32) &&& 31))) (m := 127) 7 (by decide)
    obtain ⟨g, hg, eg⟩ := pk_andE (nI v >>> ((14 : Int32) &&& 31)) (m := 3) 2 (by decide)
    refine nm_r ew ?_
    rw [eg]
    refine cy_weekDays hw' hg (fun c hc => pk_le 0 c (fun _ => ?_) (fun z => absurd z (by omega)))
    exact tail _ _ _ _ _ _ _ _ _ _ _ _ _ _ _ _ _ _ _ _ _ ⟨⟨o1, o2, o3, o4, o5, hw'⟩, Ix, IE, Id, cy_nr⟩
  refine pk_eq op 4 (fun z4 => ?_) (fun z4 => ?_)
  · refine ⟨by decide, nm_r (e' := nI (7304 - v % 4000)) ?_ (cy_limit (by omega) (br_t rfl ?_))⟩
    · rw [show (4000 : Int32) = nI 4000 from rfl, pk_rem (by omega) (by omega) (by omega), show (7304 : Int32) = nI 7304 from rfl, pk_sub (by omega)]
    · exact tail _ _ _ _ _ _ _ _ _ _ _ _ _ _ _ _ _ _ _ _ _ ⟨⟨o1, by omega, o3, o4, o5, o6⟩, Ix, IE, Id, cy_nr⟩
  refine pk_lt 6 op (fun z6 => tail _ _ _ _ _ _ _ _ _ _ _ _ _ _ _ _ _ _ _ _ _ ⟨⟨o1, o2, o3, o4, o5, o6⟩, Ix, IE, Id, IR⟩) (fun z6 => ?_)
  refine ⟨by decide, nm_r (e' := nI (v % 7305)) (by rw [show (7305 : Int32) = nI 7305 from rfl, pk_rem (by omega) (by omega) (by omega)]) ?_⟩
  refine pk_eq op 5 (fun z5 => ?_) (fun z5 => ?_)
  · subst z5
    have put : ∀ (X7 : Int32) (x : Nat) (rd : Int32) (a1 a2 : Nat → Int32), x = cy_c none i → cy_ent x a1 a2 (cy_M none i) → wL_law_255 post L xs (wL_law_32 post L xs kc ks n) (nI s) (nI e) (nI f) (nI k) (nI w) X7 (cy_o i) (nI t) (nI 5) (nI v) (nI (v % 7305)) kc ks (nI s) (nI f) (nI k) 0 0 0 (nI w) od 0 0 (nI e) (nI x) um ud uv uo km kk rd md a1 a2 a3 a4 :=
      fun X7 x rd a1 a2 q1 q2 => cy_255o ⟨o1, o2, o3, o4, o5, o6⟩ q1 q2 (by omega) (fun o i x a1 a2 hI => tail _ _ _ _ _ _ _ _ _ _ _ _ _ _ _ _ _ _ _ _ _ hI)
    cases o with
    | none => exact br_t (by decide) (put _ _ _ _ _ Ix IE)
    | some d0 =>
      have b0 := bo d0 rfl
      refine br_f (nI_pos (by omega)) (br_t rfl ?_)
      have ex : x = i.isSome.toNat + 1 := by
        rw [Ix]
        show 1 + i.isSome.toNat = _
        omega
      have hi := Bool.toNat_le i.isSome
      subst ex
      refine cy_extraDel (x := i.isSome.toNat) (M := cy_M (some d0) i) (b := false) rfl b0 (by omega) IE ?_ (fun r a1 a2 hE' => put _ _ _ _ _ ?_ ?_)
      · unfold cy_M
        rw [if_neg (fun z => Id d0 z rfl), if_pos rfl]
      · show _ = 0 + i.isSome.toNat
        omega
      · rw [cy_F1 rfl Id] at hE'
        exact hE'
  · have z7 : op = 6 := by omega
    subst z7
    have put : ∀ (X8 : Int32) (x : Nat) (rd : Int32) (a1 a2 : Nat → Int32), x = cy_c o none → cy_ent x a1 a2 (cy_M o none) → wL_law_255 post L xs (wL_law_32 post L xs kc ks n) (nI s) (nI e) (nI f) (nI k) (nI w) (cy_o o) X8 (nI t) (nI 6) (nI v) (nI (v % 7305)) kc ks (nI s) (nI f) (nI k) 0 0 0 (nI w) od 0 0 (nI e) (nI x) um ud uv uo km kk rd md a1 a2 a3 a4 :=
      fun X8 x rd a1 a2 q1 q2 => cy_255i ⟨o1, o2, o3, o4, o5, o6⟩ q1 q2 (by omega) (fun o i x a1 a2 hI => tail _ _ _ _ _ _ _ _ _ _ _ _ _ _ _ _ _ _ _ _ _ hI)
    cases i with
    | none => exact br_t (by decide) (put _ _ _ _ _ Ix IE)
    | some d0 =>
      have b0 := bi d0 rfl
      refine br_f (nI_pos (by omega)) (br_f (by decide) ?_)
      have ex : x = o.isSome.toNat + 1 := Ix
      have ho := Bool.toNat_le o.isSome
      subst ex
      refine cy_extraDel (x := o.isSome.toNat) (M := cy_M o (some d0)) (b := true) rfl b0 (by omega) IE ?_ (fun r a1 a2 hE' => put _ _ _ _ _ rfl ?_)
      · unfold cy_M
        rw [if_pos rfl]
      · rw [cy_F3 rfl Id] at hE'
        exact hE'
theorem cy_32 {L : Nat} {xs : Nat → Int32} {kc ks : Nat} (hL : L ≤ 260) : ∀ (n t s e f k w x : Nat) (o i : Option Nat) (od um ud uv uo km kk rd md : Int32) (a1 a2 a3 : Nat → Int32) (a4 : Nat → Int64), 62 < n + t → t ≤ 62 → cy_inv s e f k w x o i rd a1 a2 a4 → wL_law_32 (fun r => r = 1) L xs kc ks n (nI s) (nI e) (nI f) (nI k) (nI w) (cy_o o) (cy_o i) (nI t) (nI s) (nI f) (nI k) 0 0 0 (nI w) od 0 0 (nI e) (nI x) um ud uv uo km kk rd md a1 a2 a3 a4 := by
  intro n
  induction n with
  | zero => intro t s e f k w x o i od um ud uv uo km kk rd md a1 a2 a3 a4 h1 h2; omega
  | succ n ih =>
    intro t s e f k w x o i od um ud uv uo km kk rd md a1 a2 a3 a4 g1 g2 I
    have e1 : Int32.ofNat L - 2 < nI t ↔ L < t + 2 := by
      rw [show Int32.ofNat L = nI L from rfl, cy_iN L, cy_iN t, show (2 : Int32) = cy_i 2 from rfl, cy_isub, cy_ilt (by omega) (by omega) (by omega) (by omega)]
      omega
    by_cases c1 : L < t + 2
    · exact br_t (e1.mpr c1) rfl
    by_cases c2 : 60 ≤ t
    · exact br_f (fun z => c1 (e1.mp z)) (pk_le 60 t (fun _ => rfl) (fun z => absurd z (by omega)))
    obtain ⟨op, hop, eo⟩ := pk_andE (xs t) (m := 7) 3 (by decide)
    obtain ⟨v, hv, ev⟩ := pk_andE (xs (t + 1)) (m := 1048575) 20 (by decide)
    refine cy_turn hop hv I (by omega) (by omega) hL eo ev (fun s e f k w x o i od um ud uv uo km kk rd md a1 a2 a3 a4 I => ?_)
    obtain ⟨ok, Ix, IE, Id, IR⟩ := I
    have hc := cy_c_le o i
    exact cy_326 ok (by omega) IE Id IR hv (fun um ud uv uo km kk rd md b hb => ih (t + 2) s e f k w x o i od um ud uv uo km kk rd md a1 a2 a3 b (by omega) (by omega) ⟨ok, Ix, IE, Id, fun _ => hb⟩)
theorem i_vc (xs : Nat → Int32) (L : Nat) (hL : L ≤ 260) : wpL_law (fun r => r = 1) L xs := by
  refine ⟨4, 151, by omega, by omega, by omega, by omega, by omega, by omega, by omega, by omega, by omega, by omega, ?_⟩
  refine ⟨63, cy_32 hL 63 0 0 7304 0 1 0 0 none none 0 _ _ _ _ _ _ 0 _ _ _ _ _ (by omega) (by omega) ⟨⟨by omega, by omega, by omega, by omega, by omega, by omega⟩, rfl, ?_, fun d z => absurd z (by simp), cy_nr⟩⟩
  exact ⟨fun j hj => absurd hj (by omega), fun i j hi => absurd hi (by omega), fun d b z => absurd z (by simp [cy_M])⟩
end
