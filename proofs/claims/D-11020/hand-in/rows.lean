section
/-! Int32 by its bits (turned from the kit's rows to paste) -/
def tz_bt (x : Int32) (i : Nat) : Bool := x.toBitVec.getLsbD i
theorem tz_bor (x y : Int32) (i : Nat) : tz_bt (x ||| y) i = (tz_bt x i || tz_bt y i) := by unfold tz_bt; rw [Int32.toBitVec_or, BitVec.getLsbD_or]
theorem tz_band (x y : Int32) (i : Nat) : tz_bt (x &&& y) i = (tz_bt x i && tz_bt y i) := by unfold tz_bt; rw [Int32.toBitVec_and, BitVec.getLsbD_and]
theorem tz_bbig {x : Int32} {i : Nat} (h : 32 ≤ i) : tz_bt x i = false := BitVec.getLsbD_of_ge _ _ h
theorem tz_b1 (i : Nat) : tz_bt 1 i = decide (i = 0) := by
  rcases Nat.lt_or_ge i 32 with h | h
  · exact (by decide +kernel : ∀ i, i < 32 → tz_bt 1 i = decide (i = 0)) i h
  · rw [tz_bbig h, decide_eq_false (by omega)]
theorem tz_b0 (i : Nat) : tz_bt 0 i = false := BitVec.getLsbD_zero
theorem tz_sl : ∀ n, n < 32 → ((nI n &&& 31).toBitVec.smod 32).toNat = n := by decide +kernel
theorem tz_su : ∀ n, n < 32 → (((nI n).toUInt32 &&& Int32.toUInt32 31).toBitVec % 32).toNat = n := by decide +kernel
theorem tz_bshl (n : Nat) (hn : n < 32) (x : Int32) {i : Nat} (hi : i < 32) : tz_bt (x <<< (nI n &&& 31)) i = (decide (n ≤ i) && tz_bt x (i - n)) := by
  unfold tz_bt
  rw [Int32.toBitVec_shiftLeft]
  show (x.toBitVec <<< ((nI n &&& 31).toBitVec.smod 32).toNat).getLsbD i = _
  rw [tz_sl n hn, BitVec.getLsbD_shiftLeft]
  rcases Nat.lt_or_ge i n with h | h
  · simp [h, Nat.not_le.mpr h]
  · simp [hi, h, Nat.not_lt.mpr h]
theorem tz_bushr (n : Nat) (hn : n < 32) (x : Int32) (i : Nat) : tz_bt ((x.toUInt32 >>> ((nI n).toUInt32 &&& Int32.toUInt32 31)).toInt32) i = tz_bt x (n + i) := by
  show (x.toUInt32 >>> ((nI n).toUInt32 &&& Int32.toUInt32 31)).toBitVec.getLsbD i = x.toUInt32.toBitVec.getLsbD (n + i)
  rw [UInt32.toBitVec_shiftRight]
  show (x.toUInt32.toBitVec >>> (((nI n).toUInt32 &&& Int32.toUInt32 31).toBitVec % 32).toNat).getLsbD i = _
  rw [tz_su n hn, BitVec.getLsbD_ushiftRight]
theorem tz_bsshr (n : Nat) (hn : n < 32) (x : Int32) {i : Nat} (hi : i < 32) : tz_bt (x >>> (nI n &&& 31)) i = if n + i < 32 then tz_bt x (n + i) else tz_bt x 31 := by
  unfold tz_bt
  rw [Int32.toBitVec_shiftRight]
  show (x.toBitVec.sshiftRight ((nI n &&& 31).toBitVec.smod 32).toNat).getLsbD i = _
  rw [tz_sl n hn, BitVec.getLsbD_sshiftRight, BitVec.msb_eq_getLsbD_last]
  simp [hi]
theorem tz_or (a b : Nat) : nI a ||| nI b = nI (a ||| b) := by
  apply Int32.toBitVec_inj.1
  show BitVec.ofNat 32 a ||| BitVec.ofNat 32 b = BitVec.ofNat 32 (a ||| b)
  apply BitVec.eq_of_getLsbD_eq
  intro i hi
  simp [hi]
theorem tz_btN {z i : Nat} (hi : i < 32) : tz_bt (nI z) i = z.testBit i := by
  show (BitVec.ofNat 32 z).getLsbD i = _
  rw [BitVec.getLsbD_ofNat]
  simp [hi]
/-- a bit as an int -/
def tz_bI (b : Bool) : Int32 := if b then 1 else 0
theorem tz_bI_t : tz_bI true = 1 := rfl
theorem tz_bI_f : tz_bI false = 0 := rfl
theorem tz_bI_nat (b : Bool) : tz_bI b = nI b.toNat := by cases b <;> rfl
theorem tz_bI0 (b : Bool) : tz_bt (tz_bI b) 0 = b := by cases b <;> decide +kernel
theorem tz_bI_nar (b : Bool) : vp_nar .boolean (tz_bI b) = tz_bI b := by cases b <;> decide +kernel
theorem tz_nar0 : vp_nar .boolean 0 = 0 := by decide +kernel
theorem tz_nar1 : vp_nar .boolean 1 = 1 := by decide +kernel
/-- x & 1 by its bit -/
theorem tz_and1 (x : Int32) : x &&& 1 = tz_bI (tz_bt x 0) := by
  apply Int32.toBitVec_inj.mp
  apply BitVec.eq_of_getLsbD_eq
  intro i hi
  have h := tz_band x 1 i
  rw [tz_b1] at h
  show tz_bt (x &&& 1) i = tz_bt (tz_bI (tz_bt x 0)) i
  rw [h]
  by_cases e : i = 0
  · rw [e, tz_bI0]; simp
  · rw [decide_eq_false e, Bool.and_false]
    cases tz_bt x 0
    · exact (tz_b0 i).symm
    · rw [tz_bI_t, tz_b1, decide_eq_false e]
/-- (x >> c) & 1 -/
theorem tz_shr1 (x : Int32) (c : Nat) (hc : c < 32) : (x >>> (nI c &&& 31)) &&& 1 = tz_bI (tz_bt x c) := by
  rw [tz_and1, tz_bsshr c hc x (by omega), if_pos (by omega), Nat.add_zero]
/-- (x >>> c) & 1 -/
theorem tz_ushr1 (x : Int32) (c : Nat) (hc : c < 32) : ((x.toUInt32 >>> ((nI c).toUInt32 &&& Int32.toUInt32 31)).toInt32) &&& 1 = tz_bI (tz_bt x c) := by
  rw [tz_and1, tz_bushr c hc x 0, Nat.add_zero]
/-- a word, one bit of it written -/
theorem tz_wbit (w : Int32) (b : Bool) (n : Nat) (hn : n < 32) {i : Nat} (hi : i < 32) : tz_bt (w ||| (tz_bI b <<< (nI n &&& 31))) i = (tz_bt w i || (decide (i = n) && b)) := by
  rw [tz_bor, tz_bshl n hn _ hi]
  congr 1
  by_cases h : n ≤ i
  · rw [decide_eq_true h, Bool.true_and]
    by_cases e : i = n
    · rw [e, Nat.sub_self, tz_bI0]; simp
    · rw [decide_eq_false e, Bool.false_and]
      cases b
      · exact tz_b0 _
      · rw [tz_bI_t, tz_b1, decide_eq_false (by omega)]
  · rw [decide_eq_false h, Bool.false_and, decide_eq_false (by omega), Bool.false_and]
/-! signed bounds -/
def tz_bd (M : Int) (x : Int32) : Prop := -M ≤ x.toInt ∧ x.toInt ≤ M
theorem tz_add {x y : Int32} (h1 : -2147483648 ≤ x.toInt + y.toInt) (h2 : x.toInt + y.toInt ≤ 2147483647) : (x + y).toInt = x.toInt + y.toInt := by
  rw [Int32.toInt_add]
  exact Int.bmod_eq_of_le (by omega) (by omega)
theorem tz_sub {x y : Int32} (h1 : -2147483648 ≤ x.toInt - y.toInt) (h2 : x.toInt - y.toInt ≤ 2147483647) : (x - y).toInt = x.toInt - y.toInt := by
  rw [Int32.toInt_sub]
  exact Int.bmod_eq_of_le (by omega) (by omega)
theorem tz_neg {x : Int32} (h1 : -2147483647 ≤ x.toInt) : (-x).toInt = -x.toInt := by
  have h2 := Int32.toInt_lt x
  rw [Int32.toInt_neg]
  exact Int.bmod_eq_of_le (by omega) (by omega)
theorem tz_sh1 (x : Int32) : (x >>> ((1 : Int32) &&& 31)).toInt = x.toInt / 2 := by
  rw [pk_shr x _ 1 (by decide +kernel), Int.shiftRight_eq_div_pow]
  rfl
theorem tz_sh2 (x : Int32) : (x >>> ((2 : Int32) &&& 31)).toInt = x.toInt / 4 := by
  rw [pk_shr x _ 2 (by decide +kernel), Int.shiftRight_eq_div_pow]
  rfl
theorem tz_2 : (2 : Int32).toInt = 2 := by decide +kernel
theorem tz_0 : (0 : Int32).toInt = 0 := by decide +kernel
theorem tz_255 : (255 : Int32).toInt = 255 := by decide +kernel
/-- the four shapes of a lifting step, their bounds -/
theorem tz_bd1 {M : Int} {x y z : Int32} (hM : M ≤ 100000) (hx : tz_bd M x) (hy : tz_bd M y) (hz : tz_bd M z) : tz_bd (2 * M + 1) (x - ((y + z) >>> ((1 : Int32) &&& 31))) := by
  unfold tz_bd at *
  have e1 : (y + z).toInt = y.toInt + z.toInt := tz_add (by omega) (by omega)
  have e2 := tz_sh1 (y + z)
  rw [e1] at e2
  have e3 : (x - ((y + z) >>> ((1 : Int32) &&& 31))).toInt = x.toInt - ((y + z) >>> ((1 : Int32) &&& 31)).toInt := tz_sub (by omega) (by omega)
  rw [e3, e2]
  omega
theorem tz_bd2 {M : Int} {x y z : Int32} (hM : M ≤ 100000) (hx : tz_bd M x) (hy : tz_bd (2 * M + 1) y) (hz : tz_bd (2 * M + 1) z) : tz_bd (2 * M + 1) (x + ((y + z + 2) >>> ((2 : Int32) &&& 31))) := by
  unfold tz_bd at *
  have e1 : (y + z).toInt = y.toInt + z.toInt := tz_add (by omega) (by omega)
  have e4 : (y + z + 2).toInt = y.toInt + z.toInt + 2 := by
    rw [tz_add (by rw [e1, tz_2]; omega) (by rw [e1, tz_2]; omega), e1, tz_2]
  have e2 := tz_sh2 (y + z + 2)
  rw [e4] at e2
  have e3 : (x + ((y + z + 2) >>> ((2 : Int32) &&& 31))).toInt = x.toInt + ((y + z + 2) >>> ((2 : Int32) &&& 31)).toInt := tz_add (by omega) (by omega)
  rw [e3, e2]
  omega
theorem tz_bd_mono {M N : Int} {x : Int32} (h : M ≤ N) (hx : tz_bd M x) : tz_bd N x := by
  unfold tz_bd at *
  omega
/-- sign and size -/
theorem tz_abs {x : Int32} {M : Nat} (hM : M ≤ 100000) (h : tz_bd M x) : ∃ z : Nat, z ≤ M ∧ ((0 ≤ x ∧ x = nI z) ∨ (¬ 0 ≤ x ∧ -x = nI z ∧ x = -nI z)) := by
  unfold tz_bd at h
  by_cases h0 : 0 ≤ x
  · obtain ⟨j, hj, e⟩ := nI_of (x := x) (fun q => by
      rw [Int32.lt_iff_toInt_lt] at q
      rw [Int32.le_iff_toInt_le] at h0
      omega)
    refine ⟨j, ?_, Or.inl ⟨h0, e⟩⟩
    rw [e, nI_toInt hj] at h
    omega
  · have h1 : x.toInt < 0 := by
      rw [Int32.le_iff_toInt_le, tz_0] at h0
      omega
    have e : (-x).toInt = -x.toInt := tz_neg (by omega)
    obtain ⟨j, hj, e2⟩ := nI_of (x := -x) (fun q => by
      rw [Int32.lt_iff_toInt_lt, e, tz_0] at q
      omega)
    refine ⟨j, ?_, Or.inr ⟨h0, e2, ?_⟩⟩
    · rw [e2, nI_toInt hj] at e
      omega
    · rw [← e2, Int32.neg_neg]
/-! stores and sums -/
theorem tz_fill {f s : Nat → Int32} {i k : Nat} {x : Int32} (hk : k = i) (h : ∀ j, j < i → s j = f j) (hx : x = f i) : ∀ j, j < i + 1 → upd s k x j = f j := by
  intro j hj
  rw [hk]
  by_cases e : j = i
  · rw [e, pk_us, hx]
  · rw [pk_un e]
    exact h j (by omega)
theorem tz_sum_c {f g : Nat → Int32} : ∀ n, (∀ j, j < n → f j = g j) → bx_sum f n = bx_sum g n
  | 0, _ => rfl
  | n + 1, h => by
    show bx_sum f n + f n = bx_sum g n + g n
    rw [tz_sum_c n (fun j hj => h j (by omega)), h n (by omega)]
theorem tz_sum_0 : ∀ n, bx_sum (fun _ => 0) n = 0
  | 0 => rfl
  | n + 1 => by
    show bx_sum (fun _ => 0) n + 0 = 0
    rw [tz_sum_0 n]; rfl
theorem tz_sum_u (f : Nat → Int32) (k : Nat) (x : Int32) : ∀ n, k < n → bx_sum (upd f k x) n = bx_sum f n - f k + x
  | 0, h => absurd h (by omega)
  | n + 1, h => by
    show bx_sum (upd f k x) n + upd f k x n = bx_sum f n + f n - f k + x
    by_cases e : k = n
    · rw [tz_sum_c (f := upd f k x) (g := f) n (fun j hj => pk_un (by omega)), e, pk_us]
      grind
    · rw [tz_sum_u f k x n (by omega), pk_un (fun q => e q.symm)]
      grind
/-- 64 f + 8 y + x -/
theorem tz_ix (f y x : Nat) : (64 * nI f + 8 * nI y) + nI x = nI (64 * f + 8 * y + x) := by
  show (nI 64 * nI f + nI 8 * nI y) + nI x = _
  rw [pk_mul, pk_mul, nI_add, nI_add]
end
section
/-! one line lifted and unlifted -/
def tz_lf (v : Nat → Int32) (j : Nat) : Int32 := if 0 < j then v (j - 1) else v (j + 1)
def tz_rt (n : Nat) (v : Nat → Int32) (j : Nat) : Int32 := if j + 1 < n then v (j + 1) else v (j - 1)
def tz_od (n : Nat) (v : Nat → Int32) : Nat → Int32 := fun j => if j % 2 = 1 then v j - ((v (j - 1) + tz_rt n v j) >>> ((1 : Int32) &&& 31)) else v j
def tz_ev (v : Nat → Int32) : Nat → Int32 := fun j => if j % 2 = 0 then v j + ((tz_lf v j + v (j + 1) + 2) >>> ((2 : Int32) &&& 31)) else v j
def tz_evI (v : Nat → Int32) : Nat → Int32 := fun j => if j % 2 = 0 then v j - ((tz_lf v j + v (j + 1) + 2) >>> ((2 : Int32) &&& 31)) else v j
def tz_odI (n : Nat) (v : Nat → Int32) : Nat → Int32 := fun j => if j % 2 = 1 then v j + ((v (j - 1) + tz_rt n v j) >>> ((1 : Int32) &&& 31)) else v j
def tz_L (n : Nat) (v : Nat → Int32) : Nat → Int32 := tz_ev (tz_od n v)
def tz_U (n : Nat) (v : Nat → Int32) : Nat → Int32 := tz_odI n (tz_evI v)
theorem tz_od1 {n : Nat} {v : Nat → Int32} {j : Nat} (h : j % 2 = 1) : tz_od n v j = v j - ((v (j - 1) + tz_rt n v j) >>> ((1 : Int32) &&& 31)) := if_pos h
theorem tz_od0 {n : Nat} {v : Nat → Int32} {j : Nat} (h : j % 2 = 0) : tz_od n v j = v j := if_neg (by omega)
theorem tz_odI1 {n : Nat} {v : Nat → Int32} {j : Nat} (h : j % 2 = 1) : tz_odI n v j = v j + ((v (j - 1) + tz_rt n v j) >>> ((1 : Int32) &&& 31)) := if_pos h
theorem tz_odI0 {n : Nat} {v : Nat → Int32} {j : Nat} (h : j % 2 = 0) : tz_odI n v j = v j := if_neg (by omega)
theorem tz_ev0 {v : Nat → Int32} {j : Nat} (h : j % 2 = 0) : tz_ev v j = v j + ((tz_lf v j + v (j + 1) + 2) >>> ((2 : Int32) &&& 31)) := if_pos h
theorem tz_ev1 {v : Nat → Int32} {j : Nat} (h : j % 2 = 1) : tz_ev v j = v j := if_neg (by omega)
theorem tz_evI0 {v : Nat → Int32} {j : Nat} (h : j % 2 = 0) : tz_evI v j = v j - ((tz_lf v j + v (j + 1) + 2) >>> ((2 : Int32) &&& 31)) := if_pos h
theorem tz_evI1 {v : Nat → Int32} {j : Nat} (h : j % 2 = 1) : tz_evI v j = v j := if_neg (by omega)
theorem tz_lfc {v v' : Nat → Int32} {j : Nat} (h0 : 0 < j → v (j - 1) = v' (j - 1)) (h1 : v (j + 1) = v' (j + 1)) : tz_lf v j = tz_lf v' j := by
  unfold tz_lf
  by_cases h : 0 < j
  · rw [if_pos h, if_pos h, h0 h]
  · rw [if_neg h, if_neg h, h1]
theorem tz_rtc {n : Nat} {v v' : Nat → Int32} {j : Nat} (h0 : j + 1 < n → v (j + 1) = v' (j + 1)) (h1 : v (j - 1) = v' (j - 1)) : tz_rt n v j = tz_rt n v' j := by
  unfold tz_rt
  by_cases h : j + 1 < n
  · rw [if_pos h, if_pos h, h0 h]
  · rw [if_neg h, if_neg h, h1]
theorem tz_evI_ev (v : Nat → Int32) (j : Nat) : tz_evI (tz_ev v) j = v j := by
  by_cases h : j % 2 = 0
  · rw [tz_evI0 h, tz_lfc (v' := v) (fun q => tz_ev1 (by omega)) (tz_ev1 (by omega)), tz_ev0 h, tz_ev1 (j := j + 1) (by omega), Int32.add_sub_cancel]
  · rw [tz_evI1 (by omega), tz_ev1 (by omega)]
theorem tz_odI_od (n : Nat) (v : Nat → Int32) (j : Nat) : tz_odI n (tz_od n v) j = v j := by
  by_cases h : j % 2 = 1
  · rw [tz_odI1 h, tz_rtc (v' := v) (fun q => tz_od0 (by omega)) (tz_od0 (by omega)), tz_od1 h, tz_od0 (j := j - 1) (by omega), Int32.sub_add_cancel]
  · rw [tz_odI0 (by omega), tz_od0 (by omega)]
theorem tz_UL (n : Nat) (v : Nat → Int32) (j : Nat) : tz_U n (tz_L n v) j = v j := by
  unfold tz_U tz_L
  rw [show tz_evI (tz_ev (tz_od n v)) = tz_od n v from funext (tz_evI_ev _)]
  exact tz_odI_od n v j
/-- what a line's map needs of the line -/
def tz_cg (T : (Nat → Int32) → Nat → Int32) (n : Nat) : Prop := ∀ v v' : Nat → Int32, (∀ j, j < n → v j = v' j) → ∀ j, j < n → T v j = T v' j
theorem tz_cg_od {n : Nat} : tz_cg (tz_od n) n := by
  intro v v' h j hj
  by_cases e : j % 2 = 1
  · rw [tz_od1 e, tz_od1 e, tz_rtc (v' := v') (fun q => h _ q) (h _ (by omega)), h j hj, h (j - 1) (by omega)]
  · rw [tz_od0 (by omega), tz_od0 (by omega), h j hj]
theorem tz_cg_odI {n : Nat} : tz_cg (tz_odI n) n := by
  intro v v' h j hj
  by_cases e : j % 2 = 1
  · rw [tz_odI1 e, tz_odI1 e, tz_rtc (v' := v') (fun q => h _ q) (h _ (by omega)), h j hj, h (j - 1) (by omega)]
  · rw [tz_odI0 (by omega), tz_odI0 (by omega), h j hj]
theorem tz_cg_ev {n : Nat} (hn : n % 2 = 0) : tz_cg tz_ev n := by
  intro v v' h j hj
  by_cases e : j % 2 = 0
  · rw [tz_ev0 e, tz_ev0 e, tz_lfc (v' := v') (fun q => h _ (by omega)) (h _ (by omega)), h j hj, h (j + 1) (by omega)]
  · rw [tz_ev1 (by omega), tz_ev1 (by omega), h j hj]
theorem tz_cg_evI {n : Nat} (hn : n % 2 = 0) : tz_cg tz_evI n := by
  intro v v' h j hj
  by_cases e : j % 2 = 0
  · rw [tz_evI0 e, tz_evI0 e, tz_lfc (v' := v') (fun q => h _ (by omega)) (h _ (by omega)), h j hj, h (j + 1) (by omega)]
  · rw [tz_evI1 (by omega), tz_evI1 (by omega), h j hj]
theorem tz_cg_L {n : Nat} (hn : n % 2 = 0) : tz_cg (tz_L n) n := fun v v' h => tz_cg_ev hn _ _ (tz_cg_od v v' h)
theorem tz_cg_U {n : Nat} (hn : n % 2 = 0) : tz_cg (tz_U n) n := fun v v' h => tz_cg_odI _ _ (tz_cg_evI hn v v' h)
theorem tz_L_bd {n : Nat} (hn : n % 2 = 0) {M : Int} (hM0 : 0 ≤ M) (hM : M ≤ 100000) {v : Nat → Int32} (h : ∀ j, j < n → tz_bd M (v j)) : ∀ j, j < n → tz_bd (2 * M + 1) (tz_L n v j) := by
  have o : ∀ j, j < n → tz_bd (2 * M + 1) (tz_od n v j) := by
    intro j hj
    by_cases e : j % 2 = 1
    · rw [tz_od1 e]
      refine tz_bd1 hM (h j hj) (h (j - 1) (by omega)) ?_
      unfold tz_rt
      by_cases q : j + 1 < n
      · rw [if_pos q]; exact h _ q
      · rw [if_neg q]; exact h _ (by omega)
    · rw [tz_od0 (by omega)]
      exact tz_bd_mono (by omega) (h j hj)
  intro j hj
  unfold tz_L
  by_cases e : j % 2 = 0
  · rw [tz_ev0 e]
    refine tz_bd2 hM ?_ ?_ (o (j + 1) (by omega))
    · rw [tz_od0 e]; exact h j hj
    · unfold tz_lf
      by_cases q : 0 < j
      · rw [if_pos q]; exact o _ (by omega)
      · rw [if_neg q]; exact o _ (by omega)
  · rw [tz_ev1 (by omega)]
    exact o j hj
/-! a line of an array: places s + j g, j < n, hold w; all else as in a -/
def tz_on (s g n : Nat) (a w a' : Nat → Int32) : Prop := (∀ j, j < n → a' (s + j * g) = w j) ∧ (∀ k, (∀ j, j < n → k ≠ s + j * g) → a' k = a k)
theorem tz_on_0 (s g n : Nat) (a : Nat → Int32) : tz_on s g n a (fun j => a (s + j * g)) a := ⟨fun _ _ => rfl, fun _ _ => rfl⟩
theorem tz_on_c {s g n : Nat} {a w w' a' : Nat → Int32} (h : tz_on s g n a w a') (e : ∀ j, j < n → w j = w' j) : tz_on s g n a w' a' := ⟨fun j hj => by rw [h.1 j hj, e j hj], h.2⟩
theorem tz_on_u {s g n i : Nat} {a w w' a' : Nat → Int32} {x : Int32} (hg : 0 < g) (hi : i < n) (h : tz_on s g n a w a') (ei : w' i = x) (e : ∀ j, j < n → j ≠ i → w' j = w j) : tz_on s g n a w' (upd a' (s + i * g) x) := by
  constructor
  · intro j hj
    by_cases q : j = i
    · rw [q, pk_us, ei]
    · rw [pk_un (fun z => q (Nat.mul_right_cancel hg (by omega))), h.1 j hj, e j hj q]
  · intro k hk
    rw [pk_un (hk i hi)]
    exact h.2 k hk
/-! m lines -/
def tz_gr (s G g m n : Nat) (a : Nat → Int32) (w : Nat → Nat → Int32) (a' : Nat → Int32) : Prop := (∀ i, i < m → ∀ j, j < n → a' (s + i * G + j * g) = w i j) ∧ (∀ k, (∀ i, i < m → ∀ j, j < n → k ≠ s + i * G + j * g) → a' k = a k)
def tz_ps (T : (Nat → Int32) → Nat → Int32) (s G g m n : Nat) (a a' : Nat → Int32) : Prop := tz_gr s G g m n a (fun i => T (fun j => a (s + i * G + j * g))) a'
/-- the lines ahead of c done -/
def tz_pc (T : (Nat → Int32) → Nat → Int32) (s G g m n c : Nat) (a a' : Nat → Int32) : Prop := tz_gr s G g m n a (fun i j => if i < c then T (fun j => a (s + i * G + j * g)) j else a (s + i * G + j * g)) a'
def tz_inj (G g m n : Nat) : Prop := ∀ i i' j j', i < m → i' < m → j < n → j' < n → i * G + j * g = i' * G + j' * g → i = i'
theorem tz_inj1 : tz_inj 8 1 8 8 := fun i i' j j' _ _ _ _ h => by omega
theorem tz_inj2 : tz_inj 1 8 8 8 := fun i i' j j' _ _ _ _ h => by omega
theorem tz_inj3 : tz_inj 16 2 4 4 := fun i i' j j' _ _ _ _ h => by omega
theorem tz_inj4 : tz_inj 2 16 4 4 := fun i i' j j' _ _ _ _ h => by omega
theorem tz_ps_at {T : (Nat → Int32) → Nat → Int32} {s G g m n : Nat} {a a' : Nat → Int32} (h : tz_ps T s G g m n a a') (i j : Nat) (hi : i < m) (hj : j < n) : a' (s + i * G + j * g) = T (fun j => a (s + i * G + j * g)) j := h.1 i hi j hj
theorem tz_pc_at {T : (Nat → Int32) → Nat → Int32} {s G g m n c : Nat} {a a' : Nat → Int32} (h : tz_pc T s G g m n c a a') (i j : Nat) (hi : i < m) (hj : j < n) : a' (s + i * G + j * g) = if i < c then T (fun j => a (s + i * G + j * g)) j else a (s + i * G + j * g) := h.1 i hi j hj
theorem tz_pc_0 (T : (Nat → Int32) → Nat → Int32) (s G g m n : Nat) (a : Nat → Int32) : tz_pc T s G g m n 0 a a := ⟨fun i _ j _ => (if_neg (by omega)).symm, fun _ _ => rfl⟩
theorem tz_pc_e {T : (Nat → Int32) → Nat → Int32} {s G g m n : Nat} {a a' : Nat → Int32} (h : tz_pc T s G g m n m a a') : tz_ps T s G g m n a a' := ⟨fun i hi j hj => by rw [tz_pc_at h i j hi hj, if_pos hi], h.2⟩
theorem tz_pc_s {T : (Nat → Int32) → Nat → Int32} {s G g m n c : Nat} {a a' a'' : Nat → Int32} (hT : tz_cg T n) (hj : tz_inj G g m n) (hc : c < m) (h : tz_pc T s G g m n c a a') (h2 : tz_on (s + c * G) g n a' (T (fun j => a' (s + c * G + j * g))) a'') : tz_pc T s G g m n (c + 1) a a'' := by
  constructor
  · intro i hi j hjn
    show a'' (s + i * G + j * g) = if i < c + 1 then T (fun j => a (s + i * G + j * g)) j else a (s + i * G + j * g)
    by_cases e : i = c
    · subst e
      rw [h2.1 j hjn, if_pos (by omega)]
      exact hT _ _ (fun j hj => by rw [tz_pc_at h i j hi hj, if_neg (by omega)]) j hjn
    · rw [h2.2 _ (fun j' hj' q => e (hj i c j j' hi hc hjn hj' (by omega))), tz_pc_at h i j hi hjn]
      by_cases q : i < c
      · rw [if_pos q, if_pos (by omega)]
      · rw [if_neg q, if_neg (by omega)]
  · intro k hk
    rw [h2.2 k (fun j hj' => hk c hc j hj')]
    exact h.2 k hk
theorem tz_ps_inv {T T' : (Nat → Int32) → Nat → Int32} {s G g m n : Nat} {a b b' a' : Nat → Int32} (R : Nat → Prop) (hc : tz_cg T' n) (hv : ∀ v j, T' (T v) j = v j) (h1 : tz_ps T s G g m n a b) (h2 : tz_ps T' s G g m n b' a') (hR : ∀ k, R k → b' k = b k) (hin : ∀ i j, i < m → j < n → R (s + i * G + j * g)) : ∀ k, R k → a' k = a k := by
  intro k hk
  by_cases q : ∃ i, i < m ∧ ∃ j, j < n ∧ k = s + i * G + j * g
  · obtain ⟨i, hi, j, hj, e⟩ := q
    rw [e, tz_ps_at h2 i j hi hj]
    rw [hc _ (T (fun j => a (s + i * G + j * g))) (fun j hj => by rw [hR _ (hin i j hi hj), tz_ps_at h1 i j hi hj]) j hj]
    exact hv _ j
  · have q' : ∀ i, i < m → ∀ j, j < n → k ≠ s + i * G + j * g := fun i hi j hj e => q ⟨i, hi, j, hj, e⟩
    rw [h2.2 k q', hR k hk, h1.2 k q']
theorem tz_ps_bd {T : (Nat → Int32) → Nat → Int32} {s G g m n : Nat} {a b : Nat → Int32} {M N : Int} (R : Nat → Prop) (hT : ∀ v, (∀ j, j < n → tz_bd M (v j)) → ∀ j, j < n → tz_bd N (T v j)) (hMN : M ≤ N) (h : tz_ps T s G g m n a b) (hin : ∀ i j, i < m → j < n → R (s + i * G + j * g)) (ha : ∀ k, R k → tz_bd M (a k)) : ∀ k, R k → tz_bd N (b k) := by
  intro k hk
  by_cases q : ∃ i, i < m ∧ ∃ j, j < n ∧ k = s + i * G + j * g
  · obtain ⟨i, hi, j, hj, e⟩ := q
    rw [e, tz_ps_at h i j hi hj]
    exact hT _ (fun j hj => ha _ (hin i j hi hj)) j hj
  · rw [h.2 k (fun i hi j hj e => q ⟨i, hi, j, hj, e⟩)]
    exact tz_bd_mono hMN (ha k hk)
theorem tz_ps_out {T : (Nat → Int32) → Nat → Int32} {s G g m n : Nat} {a b : Nat → Int32} (R : Nat → Prop) (h : tz_ps T s G g m n a b) (hin : ∀ i j, i < m → j < n → R (s + i * G + j * g)) : ∀ k, ¬ R k → b k = a k := fun k hk => h.2 k (fun i hi j hj e => hk (by rw [e]; exact hin i j hi hj))
/-! a frame analysed and synthesised -/
def tz_re (s k : Nat) : Prop := s ≤ k ∧ k < s + 64
theorem tz_in1 (s : Nat) : ∀ i j, i < 8 → j < 8 → tz_re s (s + i * 8 + j * 1) := fun i j _ _ => ⟨by omega, by omega⟩
theorem tz_in2 (s : Nat) : ∀ i j, i < 8 → j < 8 → tz_re s (s + i * 1 + j * 8) := fun i j _ _ => ⟨by omega, by omega⟩
theorem tz_in3 (s : Nat) : ∀ i j, i < 4 → j < 4 → tz_re s (s + i * 16 + j * 2) := fun i j _ _ => ⟨by omega, by omega⟩
theorem tz_in4 (s : Nat) : ∀ i j, i < 4 → j < 4 → tz_re s (s + i * 2 + j * 16) := fun i j _ _ => ⟨by omega, by omega⟩
def tz_sy (s : Nat) (a a' : Nat → Int32) : Prop := ∃ b c d, tz_ps (tz_U 4) s 2 16 4 4 a b ∧ tz_ps (tz_U 4) s 16 2 4 4 b c ∧ tz_ps (tz_U 8) s 1 8 8 8 c d ∧ tz_ps (tz_U 8) s 8 1 8 8 d a'
def tz_an (s : Nat) (a a' : Nat → Int32) : Prop := ∃ b c d, tz_ps (tz_L 8) s 8 1 8 8 a b ∧ tz_ps (tz_L 8) s 1 8 8 8 b c ∧ tz_ps (tz_L 4) s 16 2 4 4 c d ∧ tz_ps (tz_L 4) s 2 16 4 4 d a'
/-- a' is such that synthesising it gives a again -/
def tz_iv (s : Nat) (a a' : Nat → Int32) : Prop := ∀ b b', tz_sy s b b' → (∀ k, tz_re s k → b k = a' k) → ∀ k, tz_re s k → b' k = a k
theorem tz_an_iv {s : Nat} {a a' : Nat → Int32} (h : tz_an s a a') : tz_iv s a a' := by
  obtain ⟨b, c, d, h1, h2, h3, h4⟩ := h
  intro e' a1 ⟨d', c', b', g4, g3, g2, g1⟩ he
  have k4 := tz_ps_inv (tz_re s) (tz_cg_U (by decide)) (tz_UL 4) h4 g4 he (tz_in4 s)
  have k3 := tz_ps_inv (tz_re s) (tz_cg_U (by decide)) (tz_UL 4) h3 g3 k4 (tz_in3 s)
  have k2 := tz_ps_inv (tz_re s) (tz_cg_U (by decide)) (tz_UL 8) h2 g2 k3 (tz_in2 s)
  exact tz_ps_inv (tz_re s) (tz_cg_U (by decide)) (tz_UL 8) h1 g1 k2 (tz_in1 s)
theorem tz_an_bd {s : Nat} {a a' : Nat → Int32} (h : tz_an s a a') (ha : ∀ k, tz_re s k → tz_bd 383 (a k)) : ∀ k, tz_re s k → tz_bd 6143 (a' k) := by
  obtain ⟨b, c, d, h1, h2, h3, h4⟩ := h
  have k1 := tz_ps_bd (M := 383) (N := 767) (tz_re s) (fun v hv => tz_L_bd (by decide) (by decide) (by decide) hv) (by decide) h1 (tz_in1 s) ha
  have k2 := tz_ps_bd (M := 767) (N := 1535) (tz_re s) (fun v hv => tz_L_bd (by decide) (by decide) (by decide) hv) (by decide) h2 (tz_in2 s) k1
  have k3 := tz_ps_bd (M := 1535) (N := 3071) (tz_re s) (fun v hv => tz_L_bd (by decide) (by decide) (by decide) hv) (by decide) h3 (tz_in3 s) k2
  exact tz_ps_bd (M := 3071) (N := 6143) (tz_re s) (fun v hv => tz_L_bd (by decide) (by decide) (by decide) hv) (by decide) h4 (tz_in4 s) k3
theorem tz_an_out {s : Nat} {a a' : Nat → Int32} (h : tz_an s a a') : ∀ k, ¬ tz_re s k → a' k = a k := by
  obtain ⟨b, c, d, h1, h2, h3, h4⟩ := h
  intro k hk
  rw [tz_ps_out (tz_re s) h4 (tz_in4 s) k hk, tz_ps_out (tz_re s) h3 (tz_in3 s) k hk, tz_ps_out (tz_re s) h2 (tz_in2 s) k hk, tz_ps_out (tz_re s) h1 (tz_in1 s) k hk]
theorem tz_sy_out {s : Nat} {a a' : Nat → Int32} (h : tz_sy s a a') : ∀ k, ¬ tz_re s k → a' k = a k := by
  obtain ⟨b, c, d, h1, h2, h3, h4⟩ := h
  intro k hk
  rw [tz_ps_out (tz_re s) h4 (tz_in1 s) k hk, tz_ps_out (tz_re s) h3 (tz_in2 s) k hk, tz_ps_out (tz_re s) h2 (tz_in3 s) k hk, tz_ps_out (tz_re s) h1 (tz_in4 s) k hk]
/-! predict and adjust, the paths still -/
def tz_pr (sg : Int32) (i : Nat) (a : Nat → Int32) : Nat → Int32 := fun k => if 64 ≤ k ∧ k < 64 + i then a k + sg * ((a (k - 64) + a (k + 64)) >>> ((1 : Int32) &&& 31)) else if 192 ≤ k ∧ k < 192 + i then a k + sg * a (k - 64) else a k
def tz_ad (sg : Int32) (i : Nat) (a : Nat → Int32) : Nat → Int32 := fun k => if k < i then a k + sg * (a (k + 64) >>> ((1 : Int32) &&& 31)) else if 128 ≤ k ∧ k < 128 + i then a k + sg * ((a (k - 64) + a (k + 64) + 2) >>> ((2 : Int32) &&& 31)) else a k
theorem tz_pr1 {sg : Int32} {i : Nat} {a : Nat → Int32} {k : Nat} (h : 64 ≤ k) (h2 : k < 64 + i) : tz_pr sg i a k = a k + sg * ((a (k - 64) + a (k + 64)) >>> ((1 : Int32) &&& 31)) := if_pos ⟨h, h2⟩
theorem tz_pr2 {sg : Int32} {i : Nat} {a : Nat → Int32} {k : Nat} (hi : i ≤ 64) (h : 192 ≤ k) (h2 : k < 192 + i) : tz_pr sg i a k = a k + sg * a (k - 64) := by
  unfold tz_pr
  rw [if_neg (by omega), if_pos ⟨h, h2⟩]
theorem tz_pr0 {sg : Int32} {i : Nat} {a : Nat → Int32} {k : Nat} (h : k < 64 ∨ 64 + i ≤ k) (h2 : k < 192 ∨ 192 + i ≤ k) : tz_pr sg i a k = a k := by
  unfold tz_pr
  rw [if_neg (by omega), if_neg (by omega)]
theorem tz_ad1 {sg : Int32} {i : Nat} {a : Nat → Int32} {k : Nat} (h2 : k < i) : tz_ad sg i a k = a k + sg * (a (k + 64) >>> ((1 : Int32) &&& 31)) := if_pos h2
theorem tz_ad2 {sg : Int32} {i : Nat} {a : Nat → Int32} {k : Nat} (hi : i ≤ 64) (h : 128 ≤ k) (h2 : k < 128 + i) : tz_ad sg i a k = a k + sg * ((a (k - 64) + a (k + 64) + 2) >>> ((2 : Int32) &&& 31)) := by
  unfold tz_ad
  rw [if_neg (by omega), if_pos ⟨h, h2⟩]
theorem tz_ad0 {sg : Int32} {i : Nat} {a : Nat → Int32} {k : Nat} (h : i ≤ k) (h2 : k < 128 ∨ 128 + i ≤ k) : tz_ad sg i a k = a k := by
  unfold tz_ad
  rw [if_neg (by omega), if_neg (by omega)]
theorem tz_pm (x e : Int32) : x + 1 * e + (-1) * e = x := by grind
theorem tz_mp (x e : Int32) : x + (-1) * e + 1 * e = x := by grind
theorem tz_ad_inv {b c : Nat → Int32} (h : ∀ k, k < 256 → c k = tz_ad 1 64 b k) : ∀ k, k < 256 → tz_ad (-1) 64 c k = b k := by
  intro k hk
  by_cases h0 : k < 64
  · rw [tz_ad1 h0, h k hk, h (k + 64) (by omega), tz_ad0 (k := k + 64) (by omega) (by omega), tz_ad1 h0, tz_pm]
  · by_cases h1 : 128 ≤ k ∧ k < 128 + 64
    · rw [tz_ad2 (by omega) h1.1 h1.2, h k hk, h (k + 64) (by omega), h (k - 64) (by omega), tz_ad0 (k := k + 64) (by omega) (by omega), tz_ad0 (k := k - 64) (by omega) (by omega), tz_ad2 (by omega) h1.1 h1.2, tz_pm]
    · rw [tz_ad0 (by omega) (by omega), h k hk, tz_ad0 (by omega) (by omega)]
theorem tz_pr_inv {a d : Nat → Int32} (h : ∀ k, k < 256 → d k = tz_pr (-1) 64 a k) : ∀ k, k < 256 → tz_pr 1 64 d k = a k := by
  intro k hk
  by_cases h0 : 64 ≤ k ∧ k < 64 + 64
  · rw [tz_pr1 h0.1 h0.2, h k hk, h (k + 64) (by omega), h (k - 64) (by omega), tz_pr0 (k := k + 64) (by omega) (by omega), tz_pr0 (k := k - 64) (by omega) (by omega), tz_pr1 h0.1 h0.2, tz_mp]
  · by_cases h1 : 192 ≤ k
    · rw [tz_pr2 (by omega) h1 (by omega), h k hk, h (k - 64) (by omega), tz_pr0 (k := k - 64) (by omega) (by omega), tz_pr2 (by omega) h1 (by omega), tz_mp]
    · rw [tz_pr0 (by omega) (by omega), h k hk, tz_pr0 (by omega) (by omega)]
theorem tz_pa_inv {a c : Nat → Int32} (h : ∀ k, k < 256 → c k = tz_ad 1 64 (tz_pr (-1) 64 a) k) : ∀ k, k < 256 → tz_pr 1 64 (tz_ad (-1) 64 c) k = a k := tz_pr_inv (tz_ad_inv h)
theorem tz_m1 (x e : Int32) : x + (-1) * e = x - e := by grind
theorem tz_p1 (x e : Int32) : x + 1 * e = x + e := by grind
def tz_by (x : Int32) : Prop := 0 ≤ x.toInt ∧ x.toInt ≤ 255
theorem tz_pr_bd {a : Nat → Int32} (h : ∀ k, k < 256 → tz_by (a k)) : ∀ k, k < 256 → tz_bd 255 (tz_pr (-1) 64 a k) := by
  intro k hk
  have g := h k hk
  by_cases h0 : 64 ≤ k ∧ k < 64 + 64
  · rw [tz_pr1 h0.1 h0.2, tz_m1]
    have g1 := h (k - 64) (by omega)
    have g2 := h (k + 64) (by omega)
    unfold tz_by at g g1 g2
    unfold tz_bd
    have e1 : (a (k - 64) + a (k + 64)).toInt = (a (k - 64)).toInt + (a (k + 64)).toInt := tz_add (by omega) (by omega)
    have e2 := tz_sh1 (a (k - 64) + a (k + 64))
    rw [e1] at e2
    rw [tz_sub (by omega) (by omega)]
    omega
  · by_cases h1 : 192 ≤ k
    · rw [tz_pr2 (by omega) h1 (by omega), tz_m1]
      have g1 := h (k - 64) (by omega)
      unfold tz_by at g g1
      unfold tz_bd
      rw [tz_sub (by omega) (by omega)]
      omega
    · rw [tz_pr0 (by omega) (by omega)]
      unfold tz_by at g
      unfold tz_bd
      omega
theorem tz_ad_bd {b : Nat → Int32} (h : ∀ k, k < 256 → tz_bd 255 (b k)) : ∀ k, k < 256 → tz_bd 383 (tz_ad 1 64 b k) := by
  intro k hk
  have g := h k hk
  by_cases h0 : k < 64
  · rw [tz_ad1 h0, tz_p1]
    have g2 := h (k + 64) (by omega)
    unfold tz_bd at g g2
    unfold tz_bd
    have e2 := tz_sh1 (b (k + 64))
    rw [tz_add (by omega) (by omega)]
    omega
  · by_cases h1 : 128 ≤ k ∧ k < 128 + 64
    · rw [tz_ad2 (by omega) h1.1 h1.2, tz_p1]
      have g1 := h (k - 64) (by omega)
      have g2 := h (k + 64) (by omega)
      unfold tz_bd at g g1 g2
      unfold tz_bd
      have e1 : (b (k - 64) + b (k + 64)).toInt = (b (k - 64)).toInt + (b (k + 64)).toInt := tz_add (by omega) (by omega)
      have e3 : (b (k - 64) + b (k + 64) + 2).toInt = (b (k - 64)).toInt + (b (k + 64)).toInt + 2 := by
        rw [tz_add (by rw [e1, tz_2]; omega) (by rw [e1, tz_2]; omega), e1, tz_2]
      have e2 := tz_sh2 (b (k - 64) + b (k + 64) + 2)
      rw [e3] at e2
      rw [tz_add (by omega) (by omega)]
      omega
    · rw [tz_ad0 (by omega) (by omega)]
      exact tz_bd_mono (by decide) g
end
section
/-! the stream of slot 1 by its bits -/
def tz_sb (s : Nat → Int32) (q : Nat) : Bool := tz_bt (s (160 + q / 32)) (q % 32)
/-- it holds the bits bs, and zeros behind them -/
def tz_ws (bs : List Bool) (s : Nat → Int32) : Prop := ∀ q, q < 5120 → tz_sb s q = bs.getD q false
/-- from p on it holds the bits bs -/
def tz_rs (bs : List Bool) (p : Nat) (s : Nat → Int32) : Prop := p + bs.length ≤ 5120 ∧ ∀ i, i < bs.length → tz_sb s (p + i) = bs.getD i false
theorem tz_gd_l {a b : List Bool} {q : Nat} (h : q < a.length) : (a ++ b).getD q false = a.getD q false := by
  rw [List.getD_eq_getElem?_getD, List.getD_eq_getElem?_getD, List.getElem?_append_left h]
theorem tz_gd_r {a b : List Bool} {q : Nat} (h : a.length ≤ q) : (a ++ b).getD q false = b.getD (q - a.length) false := by
  rw [List.getD_eq_getElem?_getD, List.getD_eq_getElem?_getD, List.getElem?_append_right h]
theorem tz_gd_o {a : List Bool} {q : Nat} (h : a.length ≤ q) : a.getD q false = false := by
  rw [List.getD_eq_getElem?_getD, List.getElem?_eq_none h]
  rfl
theorem tz_ws_w {bs : List Bool} {s : Nat → Int32} {p : Nat} (b : Bool) (h : tz_ws bs s) (hp : bs.length = p) (hq : p < 5120) : tz_ws (bs ++ [b]) (upd s (160 + p / 32) (s (160 + p / 32) ||| (tz_bI b <<< (nI (p % 32) &&& 31)))) := by
  intro q hq5
  have hs := h q hq5
  unfold tz_sb at hs ⊢
  have key : tz_bt (upd s (160 + p / 32) (s (160 + p / 32) ||| (tz_bI b <<< (nI (p % 32) &&& 31))) (160 + q / 32)) (q % 32) = (tz_bt (s (160 + q / 32)) (q % 32) || (decide (q = p) && b)) := by
    by_cases e : q / 32 = p / 32
    · rw [e, pk_us, tz_wbit _ b (p % 32) (by omega) (by omega)]
      by_cases e2 : q = p
      · rw [decide_eq_true e2, decide_eq_true (by rw [e2])]
      · rw [decide_eq_false e2, decide_eq_false (by omega)]
    · rw [pk_un (by omega), decide_eq_false (by omega), Bool.false_and, Bool.or_false]
  rw [key, hs]
  rcases Nat.lt_trichotomy q p with c | c | c
  · rw [tz_gd_l (by omega), decide_eq_false (by omega), Bool.false_and, Bool.or_false]
  · rw [tz_gd_r (by omega), tz_gd_o (by omega), decide_eq_true c, show q - bs.length = 0 by omega]
    simp
  · rw [tz_gd_o (a := bs ++ [b]) (by simp; omega), tz_gd_o (by omega), decide_eq_false (by omega), Bool.false_and, Bool.or_false]
theorem tz_ws_rs {bs : List Bool} {s : Nat → Int32} (h : tz_ws bs s) (hl : bs.length ≤ 5120) : tz_rs bs 0 s := ⟨by omega, fun i hi => by rw [Nat.zero_add]; exact h i (by omega)⟩
theorem tz_rs_c {b : Bool} {bs : List Bool} {p : Nat} {s : Nat → Int32} (h : tz_rs (b :: bs) p s) : p < 5120 ∧ tz_sb s p = b ∧ tz_rs bs (p + 1) s := by
  have hl := h.1
  rw [List.length_cons] at hl
  refine ⟨by omega, ?_, by omega, fun i hi => ?_⟩
  · have := h.2 0 (by simp)
    rw [Nat.add_zero] at this
    rw [this]
    rfl
  · have := h.2 (i + 1) (by simp; omega)
    rw [show p + 1 + i = p + (i + 1) by omega, this]
    rfl
/-! a number written and read -/
def tz_wb (v : Int32) : Nat → List Bool
  | 0 => []
  | c + 1 => tz_bt v c :: tz_wb v c
def tz_val : Nat → List Bool → Nat
  | a, [] => a
  | a, b :: bs => tz_val (2 * a + b.toNat) bs
theorem tz_wb_len (v : Int32) : ∀ c, (tz_wb v c).length = c
  | 0 => rfl
  | c + 1 => by
    show (tz_wb v c).length + 1 = c + 1
    rw [tz_wb_len v c]
theorem tz_wb1 (b : Bool) : tz_wb (tz_bI b) 1 = [b] := by
  show [tz_bt (tz_bI b) 0] = [b]
  rw [tz_bI0]
theorem tz_tbN (z c : Nat) : (z.testBit c).toNat = z / 2 ^ c % 2 := by
  rw [Nat.testBit_eq_decide_div_mod_eq]
  have h : z / 2 ^ c % 2 = 0 ∨ z / 2 ^ c % 2 = 1 := by omega
  rcases h with h | h
  · rw [h]; rfl
  · rw [h]; rfl
theorem tz_val_m (z : Nat) : ∀ c a, c ≤ 31 → tz_val a (tz_wb (nI z) c) = a * 2 ^ c + z % 2 ^ c
  | 0, a, _ => by
    show a = a * 1 + z % 1
    omega
  | c + 1, a, hc => by
    show tz_val (2 * a + (tz_bt (nI z) c).toNat) (tz_wb (nI z) c) = _
    rw [tz_val_m z c _ (by omega), tz_btN (by omega), tz_tbN, Nat.mod_pow_succ, Nat.pow_succ, Nat.add_mul]
    have e : 2 * a * 2 ^ c = a * (2 ^ c * 2) := by
      rw [Nat.mul_comm 2 a, Nat.mul_assoc, Nat.mul_comm 2]
    have e2 : z / 2 ^ c % 2 * 2 ^ c = 2 ^ c * (z / 2 ^ c % 2) := Nat.mul_comm _ _
    omega
theorem tz_val_wb {z c : Nat} (hc : c ≤ 31) (hz : z < 2 ^ c) : tz_val 0 (tz_wb (nI z) c) = z := by
  rw [tz_val_m z c 0 hc, Nat.zero_mul, Nat.zero_add, Nat.mod_eq_of_lt hz]
/-! the cells' picture: z the sizes, ng the signs; a cell is seen at level p if 2^p ≤ z -/
def tz_sn (z p : Nat) : Bool := decide (2 ^ p ≤ z)
def tz_gs (z : Nat → Nat) (g p : Nat) : Bool := tz_sn (z (4 * g)) p || tz_sn (z (4 * g + 1)) p || tz_sn (z (4 * g + 2)) p || tz_sn (z (4 * g + 3)) p
def tz_ec (z : Nat → Nat) (ng : Nat → Bool) (p j : Nat) : List Bool := (z j).testBit p :: (if (z j).testBit p && !tz_sn (z j) (p + 1) then [ng j] else [])
def tz_es (z : Nat → Nat) (ng : Nat → Bool) (p : Nat) : Nat → Nat → List Bool
  | _, 0 => []
  | j, n + 1 => tz_ec z ng p j ++ tz_es z ng p (j + 1) n
def tz_eg (z : Nat → Nat) (ng : Nat → Bool) (p g : Nat) : List Bool := (if tz_gs z g (p + 1) then [] else [tz_gs z g p]) ++ (if tz_gs z g p then tz_es z ng p (4 * g) 4 else [])
def tz_et (z : Nat → Nat) (ng : Nat → Bool) (p : Nat) : Nat → Nat → List Bool
  | _, 0 => []
  | g, n + 1 => tz_eg z ng p g ++ tz_et z ng p (g + 1) n
def tz_ef (z : Nat → Nat) (ng : Nat → Bool) (g : Nat) : Nat → List Bool
  | 0 => []
  | c + 1 => tz_et z ng c g 16 ++ tz_ef z ng g c
def tz_eF (z : Nat → Nat) (ng : Nat → Bool) (f P : Nat) : List Bool := tz_wb (nI P) 4 ++ tz_ef z ng (16 * f) P
theorem tz_gs_iff {z : Nat → Nat} {g p : Nat} : tz_gs z g p = true ↔ ∃ j, 4 * g ≤ j ∧ j < 4 * g + 4 ∧ 2 ^ p ≤ z j := by
  unfold tz_gs tz_sn
  simp only [Bool.or_eq_true, decide_eq_true_eq]
  constructor
  · rintro (((h | h) | h) | h)
    · exact ⟨_, by omega, by omega, h⟩
    · exact ⟨_, by omega, by omega, h⟩
    · exact ⟨_, by omega, by omega, h⟩
    · exact ⟨_, by omega, by omega, h⟩
  · rintro ⟨j, h1, h2, h⟩
    rcases (by omega : j = 4 * g ∨ j = 4 * g + 1 ∨ j = 4 * g + 2 ∨ j = 4 * g + 3) with e | e | e | e
    · subst e; exact Or.inl (Or.inl (Or.inl h))
    · subst e; exact Or.inl (Or.inl (Or.inr h))
    · subst e; exact Or.inl (Or.inr h)
    · subst e; exact Or.inr h
theorem tz_gs_f {z : Nat → Nat} {g p : Nat} (h : tz_gs z g p = false) : ∀ j, 4 * g ≤ j → j < 4 * g + 4 → tz_sn (z j) p = false := by
  intro j h1 h2
  refine decide_eq_false (fun q => ?_)
  rw [tz_gs_iff.mpr ⟨j, h1, h2, q⟩] at h
  exact absurd h (by decide)
theorem tz_pw (p : Nat) : 2 ^ (p + 1) = 2 * 2 ^ p := by rw [Nat.pow_succ, Nat.mul_comm]
theorem tz_sn_lt {z p : Nat} (h : z < 2 ^ p) : tz_sn z p = false := decide_eq_false (by omega)
theorem tz_sn_up {z p : Nat} (h : tz_sn z (p + 1) = true) : tz_sn z p = true := by
  have h1 : 2 ^ (p + 1) ≤ z := of_decide_eq_true h
  rw [tz_pw] at h1
  exact decide_eq_true (by omega)
theorem tz_gs_up {z : Nat → Nat} {g p : Nat} (h : tz_gs z g (p + 1) = true) : tz_gs z g p = true := by
  obtain ⟨j, h1, h2, h3⟩ := tz_gs_iff.mp h
  exact tz_gs_iff.mpr ⟨j, h1, h2, by rw [tz_pw] at h3; omega⟩
theorem tz_sn_step (z p : Nat) : tz_sn z p = (tz_sn z (p + 1) || z.testBit p) := by
  cases h : tz_sn z (p + 1) with
  | true => rw [tz_sn_up h]; rfl
  | false =>
    have h1 : ¬ 2 ^ (p + 1) ≤ z := of_decide_eq_false h
    rw [tz_pw] at h1
    rw [Bool.false_or, Nat.testBit_eq_decide_div_mod_eq]
    have hp : 0 < 2 ^ p := Nat.two_pow_pos p
    by_cases h2 : 2 ^ p ≤ z
    · have e : z / 2 ^ p = 1 := by
        apply Nat.div_eq_of_lt_le
        · omega
        · omega
      rw [e]
      exact decide_eq_true h2
    · rw [Nat.div_eq_of_lt (by omega)]
      exact decide_eq_false h2
theorem tz_lvl (z p : Nat) : z / 2 ^ p * 2 ^ p = z / 2 ^ (p + 1) * 2 ^ (p + 1) + (z.testBit p).toNat * 2 ^ p := by
  rw [tz_tbN, Nat.pow_succ, ← Nat.div_div_eq_div_mul]
  generalize z / 2 ^ p = q
  have e : q = q / 2 * 2 + q % 2 := by omega
  calc q * 2 ^ p = (q / 2 * 2 + q % 2) * 2 ^ p := by rw [← e]
    _ = q / 2 * 2 * 2 ^ p + q % 2 * 2 ^ p := Nat.add_mul _ _ _
    _ = q / 2 * (2 ^ p * 2) + q % 2 * 2 ^ p := by rw [Nat.mul_assoc, Nat.mul_comm 2]
theorem tz_orl {z p : Nat} (hp : p < 20) : nI (z / 2 ^ (p + 1) * 2 ^ (p + 1)) ||| (tz_bI (z.testBit p) <<< (nI p &&& 31)) = nI (z / 2 ^ p * 2 ^ p) := by
  have hb : (z.testBit p).toNat ≤ 1 := by cases z.testBit p <;> decide
  have h20 : 2 ^ p < 2 ^ 20 := Nat.pow_lt_pow_right (by decide) hp
  have hm : (z.testBit p).toNat * 2 ^ p ≤ 1 * 2 ^ p := Nat.mul_le_mul_right _ hb
  rw [tz_bI_nat, pk_shlN _ p (tz_sl p (by omega)) (by omega), tz_or, tz_lvl z p, Nat.mul_comm (z / 2 ^ (p + 1))]
  rw [Nat.two_pow_add_eq_or_of_lt (by rw [tz_pw]; have := Nat.two_pow_pos p; omega)]
/-! how long it gets -/
def tz_ct (z : Nat → Nat) (p : Nat) : Nat → Nat → Nat
  | _, 0 => 0
  | j, n + 1 => (tz_sn (z j) p).toNat + tz_ct z p (j + 1) n
theorem tz_ct_le (z : Nat → Nat) (p : Nat) : ∀ n j, tz_ct z p j n ≤ n
  | 0, j => Nat.le_refl _
  | n + 1, j => by
    show (tz_sn (z j) p).toNat + tz_ct z p (j + 1) n ≤ n + 1
    have h := tz_ct_le z p n (j + 1)
    have hb : (tz_sn (z j) p).toNat ≤ 1 := by cases tz_sn (z j) p <;> decide
    omega
theorem tz_sn_mono (z p : Nat) : (tz_sn z (p + 1)).toNat ≤ (tz_sn z p).toNat := by
  cases h : tz_sn z (p + 1) with
  | true => rw [tz_sn_up h]; exact Nat.le_refl _
  | false => exact Nat.zero_le _
theorem tz_ct_mono (z : Nat → Nat) (p : Nat) : ∀ n j, tz_ct z (p + 1) j n ≤ tz_ct z p j n
  | 0, j => Nat.le_refl _
  | n + 1, j => by
    show (tz_sn (z j) (p + 1)).toNat + tz_ct z (p + 1) (j + 1) n ≤ (tz_sn (z j) p).toNat + tz_ct z p (j + 1) n
    exact Nat.add_le_add (tz_sn_mono _ _) (tz_ct_mono z p n (j + 1))
theorem tz_ct_add (z : Nat → Nat) (p m : Nat) : ∀ n j, tz_ct z p j (n + m) = tz_ct z p j n + tz_ct z p (j + n) m
  | 0, j => by
    rw [Nat.zero_add]
    exact (Nat.zero_add _).symm
  | n + 1, j => by
    rw [show n + 1 + m = (n + m) + 1 by omega]
    show (tz_sn (z j) p).toNat + tz_ct z p (j + 1) (n + m) = (tz_sn (z j) p).toNat + tz_ct z p (j + 1) n + tz_ct z p (j + (n + 1)) m
    rw [tz_ct_add z p m n (j + 1), show j + 1 + n = j + (n + 1) by omega]
    omega
theorem tz_ec_len (z : Nat → Nat) (ng : Nat → Bool) (p j : Nat) : (tz_ec z ng p j).length + (tz_sn (z j) (p + 1)).toNat ≤ 1 + (tz_sn (z j) p).toNat := by
  unfold tz_ec
  rw [tz_sn_step (z j) p]
  cases tz_sn (z j) (p + 1) <;> cases (z j).testBit p <;> simp
theorem tz_es_len (z : Nat → Nat) (ng : Nat → Bool) (p : Nat) : ∀ n j, (tz_es z ng p j n).length + tz_ct z (p + 1) j n ≤ n + tz_ct z p j n
  | 0, j => Nat.le_refl _
  | n + 1, j => by
    show (tz_ec z ng p j ++ tz_es z ng p (j + 1) n).length + ((tz_sn (z j) (p + 1)).toNat + tz_ct z (p + 1) (j + 1) n) ≤ n + 1 + ((tz_sn (z j) p).toNat + tz_ct z p (j + 1) n)
    rw [List.length_append]
    have h1 := tz_ec_len z ng p j
    have h2 := tz_es_len z ng p n (j + 1)
    omega
theorem tz_eg_len (z : Nat → Nat) (ng : Nat → Bool) (p g : Nat) : (tz_eg z ng p g).length + tz_ct z (p + 1) (4 * g) 4 ≤ 5 + tz_ct z p (4 * g) 4 := by
  unfold tz_eg
  have h1 := tz_es_len z ng p 4 (4 * g)
  have h2 := tz_ct_mono z p 4 (4 * g)
  rw [List.length_append]
  cases tz_gs z g (p + 1) <;> cases tz_gs z g p <;> simp <;> omega
theorem tz_et_len (z : Nat → Nat) (ng : Nat → Bool) (p : Nat) : ∀ n g, (tz_et z ng p g n).length + tz_ct z (p + 1) (4 * g) (4 * n) ≤ 5 * n + tz_ct z p (4 * g) (4 * n)
  | 0, g => Nat.le_refl _
  | n + 1, g => by
    rw [show 4 * (n + 1) = 4 + 4 * n by omega, tz_ct_add, tz_ct_add, show 4 * g + 4 = 4 * (g + 1) by omega]
    show (tz_eg z ng p g ++ tz_et z ng p (g + 1) n).length + _ ≤ _
    rw [List.length_append]
    have h1 := tz_eg_len z ng p g
    have h2 := tz_et_len z ng p n (g + 1)
    omega
theorem tz_ef_len (z : Nat → Nat) (ng : Nat → Bool) (g : Nat) : ∀ c, (tz_ef z ng g c).length + tz_ct z c (4 * g) 64 ≤ 80 * c + tz_ct z 0 (4 * g) 64
  | 0 => by
    show 0 + _ ≤ _
    omega
  | c + 1 => by
    show (tz_et z ng c g 16 ++ tz_ef z ng g c).length + _ ≤ _
    rw [List.length_append]
    have h1 := tz_et_len z ng c 16 g
    rw [show 4 * 16 = 64 from rfl] at h1
    have h2 := tz_ef_len z ng g c
    omega
theorem tz_eF_len (z : Nat → Nat) (ng : Nat → Bool) (f P : Nat) (hP : P ≤ 13) : (tz_eF z ng f P).length ≤ 1108 := by
  unfold tz_eF
  rw [List.length_append, tz_wb_len]
  have h1 := tz_ef_len z ng (16 * f) P
  have h2 := tz_ct_le z 0 64 (4 * (16 * f))
  omega
end
section
/-! the small methods -/
def tz_Fr (x : Int32) : Prop := ¬ x < 0 ∧ ¬ 3 < x
def tz_In (x y : Int32) : Prop := ¬ x < 0 ∧ ¬ 7 < x ∧ ¬ y < 0 ∧ ¬ 7 < y
theorem tz_isF {post : Int32 → Prop} {x : Int32} (h1 : tz_Fr x → post 1) (h0 : ¬ tz_Fr x → post 0) : wpX_isFrame post () x := br_c (fun q => h0 (fun z => z.1 q)) (fun q => br_c (fun q2 => h0 (fun z => z.2 q2)) (fun q2 => h1 ⟨q, q2⟩))
theorem tz_isI {post : Int32 → Prop} {x y : Int32} (h1 : tz_In x y → post 1) (h0 : ¬ tz_In x y → post 0) : wpX_isInside post () x y := br_c (fun q => h0 (fun z => z.1 q)) (fun q => br_c (fun q2 => h0 (fun z => z.2.1 q2)) (fun q2 => br_c (fun q3 => h0 (fun z => z.2.2.1 q3)) (fun q3 => br_c (fun q4 => h0 (fun z => z.2.2.2 q4)) (fun q4 => h1 ⟨q, q2, q3, q4⟩))))
theorem tz_isS1 {post : Int32 → Prop} (h : post 1) : wpX_isSlot post () 1 := br_f (by decide) (br_t rfl h)
theorem tz_isS0 {post : Int32 → Prop} (h : post 1) : wpX_isSlot post () 0 := br_t rfl h
theorem tz_isS2 {post : Int32 → Prop} (h : post 0) : wpX_isSlot post () 2 := br_f (by decide) (br_f (by decide) h)
theorem tz_FrN {x : Int32} (h : tz_Fr x) : ∃ f : Nat, f < 4 ∧ x = nI f := by
  obtain ⟨j, hj, e⟩ := nI_of2 (M := 3) (n := 3) (by decide +kernel) h.1 (Int32.not_lt.mp h.2)
  exact ⟨j, by omega, e⟩
theorem tz_InN {x y : Int32} (h : tz_In x y) : ∃ u v : Nat, u < 8 ∧ v < 8 ∧ x = nI u ∧ y = nI v := by
  obtain ⟨j, hj, e⟩ := nI_of2 (M := 7) (n := 7) (by decide +kernel) h.1 (Int32.not_lt.mp h.2.1)
  obtain ⟨j2, hj2, e2⟩ := nI_of2 (M := 7) (n := 7) (by decide +kernel) h.2.2.1 (Int32.not_lt.mp h.2.2.2)
  exact ⟨j, j2, by omega, by omega, e, e2⟩
theorem tz_lim {post : Int32 → Prop} {x : Int32} (j : Nat) (hj : j < 8) (hx : x = nI j) (h : post (nI j)) : wpX_limited post () x := by
  subst hx
  exact pk_le 0 j (fun _ => pk_le j 7 (fun _ => h) (fun z => absurd z (by omega))) (fun z => absurd z (by omega))
section
variable {fb fp : Int32} {a1 a2 a3 a4 a5 a6 a7 a8 a9 a10 a11 a12 : Nat → Int32}
theorem tz_init {post : St2 → Prop} (H : ∀ b3 b4 : Nat → Int32, (∀ j, j < 12 → b3 j = 12) → post (fb, fp, (fun _ => 0), (fun _ => 0), b3, b4, (fun _ => 0), (fun _ => 0), (fun _ => 0), (fun _ => 0), (fun _ => 0), (fun _ => 0), (fun _ => 0), (fun _ => 0))) : wpX_init post 12 1958 (fb, fp) := by
  unfold wpX_init
  dsimp only
  refine ⟨by decide, by decide, by decide, by decide, by decide, by decide, by decide, by decide, by decide, by decide, by decide, by decide, by decide, by decide, by decide, by decide, by decide, by decide, by decide, by decide, by decide, by decide, by decide, by decide, ?_⟩
  exact pk_loop (σ := (Nat → Int32) × (Nat → Int32)) (fun n i s => wX_init_108 post 12 1958 12 1958 fb fp n (nI i) (fun _ => 0) (fun _ => 0) s.1 s.2 (fun _ => 0) (fun _ => 0) (fun _ => 0) (fun _ => 0) (fun _ => 0) (fun _ => 0) (fun _ => 0) (fun _ => 0)) (fun i s => ∀ j, j < i → s.1 j = 12) 12 0 ((fun _ => 0), (fun _ => 0)) (by omega) lt_0
    (fun n s h => pk_le 12 12 (fun _ => H s.1 s.2 h) (fun z => absurd z (by omega)))
    (fun n i s hi h hw => pk_le 12 i (fun z => absurd z (by omega)) (fun _ => ⟨pk_in i 12 hi, nm_e ⟨pk_in i 12 hi, nm_e (nm_r (nI_1 i) (hw (_, _) (tz_fill (f := fun _ => 12) (nI_clamp (by omega)) h rfl)))⟩⟩))
theorem tz_put {post : Int32 → St2 → Prop} {p0 p1 p2 p3 : Int32} (hF : ¬ tz_Fr p0 → post (-1) (fb, fp, a1, a2, a3, a4, a5, a6, a7, a8, a9, a10, a11, a12)) (hI : tz_Fr p0 → ¬ tz_In p1 p2 → post (-2) (fb, fp, a1, a2, a3, a4, a5, a6, a7, a8, a9, a10, a11, a12))
    (H : tz_Fr p0 → tz_In p1 p2 → ∀ f x y : Nat, f < 4 → x < 8 → y < 8 → p0 = nI f → p1 = nI x → p2 = nI y → post (a1 (64 * f + 8 * y + x)) (fb, fp, upd a1 (64 * f + 8 * y + x) (p3 &&& 255), a2, a3, a4, a5, a6, a7, a8, a9, a10, a11, a12)) : wpX_put post (fb, fp, a1, a2, a3, a4, a5, a6, a7, a8, a9, a10, a11, a12) p0 p1 p2 p3 := by
  unfold wpX_put
  dsimp only
  refine tz_isF (fun hf => br_f (by decide) (tz_isI (fun hi => br_f (by decide) ?_) (fun hi => br_t rfl (hI hf hi)))) (fun hf => br_t rfl (hF hf))
  obtain ⟨f, h4, ef⟩ := tz_FrN hf
  obtain ⟨x, y, hx, hy, ex, ey⟩ := tz_InN hi
  have hh := H hf hi f x y h4 hx hy ef ex ey
  subst ef ex ey
  refine nm_r (tz_ix f y x) ⟨vp_in_nI (by omega) (by omega), nm_r (e' := a1 (64 * f + 8 * y + x)) (by rw [nI_clamp (by omega)]) ⟨vp_in_nI (by omega) (by omega), nm_r (e' := upd a1 (64 * f + 8 * y + x) (p3 &&& 255)) (by rw [nI_clamp (by omega)]) hh⟩⟩
theorem tz_pixel {post : Int32 → Prop} {p0 p1 p2 : Int32} (hF : ¬ tz_Fr p0 → post (-1)) (hI : tz_Fr p0 → ¬ tz_In p1 p2 → post (-2))
    (H : tz_Fr p0 → tz_In p1 p2 → ∀ f x y : Nat, f < 4 → x < 8 → y < 8 → p0 = nI f → p1 = nI x → p2 = nI y → post (a1 (64 * f + 8 * y + x))) : wpX_pixel post (fb, fp, a1, a2, a3, a4, a5, a6, a7, a8, a9, a10, a11, a12) p0 p1 p2 := by
  unfold wpX_pixel
  dsimp only
  refine tz_isF (fun hf => br_f (by decide) (tz_isI (fun hi => br_f (by decide) ?_) (fun hi => br_t rfl (hI hf hi)))) (fun hf => br_t rfl (hF hf))
  obtain ⟨f, h4, ef⟩ := tz_FrN hf
  obtain ⟨x, y, hx, hy, ex, ey⟩ := tz_InN hi
  have hh := H hf hi f x y h4 hx hy ef ex ey
  subst ef ex ey
  rw [tz_ix, nI_clamp (by omega)]
  exact ⟨vp_in_nI (by omega) (by omega), hh⟩
theorem tz_out {post : Int32 → Prop} {p0 p1 p2 : Int32} (hF : ¬ tz_Fr p0 → post (-1)) (hI : tz_Fr p0 → ¬ tz_In p1 p2 → post (-2))
    (H : tz_Fr p0 → tz_In p1 p2 → ∀ f x y : Nat, f < 4 → x < 8 → y < 8 → p0 = nI f → p1 = nI x → p2 = nI y → post (a2 (64 * f + 8 * y + x))) : wpX_out post (fb, fp, a1, a2, a3, a4, a5, a6, a7, a8, a9, a10, a11, a12) p0 p1 p2 := by
  unfold wpX_out
  dsimp only
  refine tz_isF (fun hf => br_f (by decide) (tz_isI (fun hi => br_f (by decide) ?_) (fun hi => br_t rfl (hI hf hi)))) (fun hf => br_t rfl (hF hf))
  obtain ⟨f, h4, ef⟩ := tz_FrN hf
  obtain ⟨x, y, hx, hy, ex, ey⟩ := tz_InN hi
  have hh := H hf hi f x y h4 hx hy ef ex ey
  subst ef ex ey
  rw [tz_ix, nI_clamp (by omega)]
  exact ⟨vp_in_nI (by omega) (by omega), hh⟩
theorem tz_filled {post : Int32 → Prop} (h6 : a6 0 = 0) (h : post 0) : wpX_filled post (fb, fp, a1, a2, a3, a4, a5, a6, a7, a8, a9, a10, a11, a12) 0 := by
  unfold wpX_filled
  dsimp only
  exact tz_isS0 (br_f (by decide) ⟨pk_in 0 2 (by omega), br_t (by rw [sb_cl0]; exact h6) h⟩)
theorem tz_diff {post : Int32 → Prop} {p0 : Int32} (hF : ¬ tz_Fr p0 → post (-1)) (H : tz_Fr p0 → post 0) (he : ∀ k, k < 256 → a2 k = a1 k) : wpX_difference post (fb, fp, a1, a2, a3, a4, a5, a6, a7, a8, a9, a10, a11, a12) p0 := by
  unfold wpX_difference
  dsimp only
  refine tz_isF (fun hf => br_f (by decide) ?_) (fun hf => br_t rfl (hF hf))
  have hh := H hf
  obtain ⟨f, h4, ef⟩ := tz_FrN hf
  subst ef
  refine nm_r (pk_mul 64 f) ?_
  refine Exists.elim (pk_loop (σ := Int32) (fun n i s => wX_difference_16 post (nI f) fb fp a1 a2 a3 a4 a5 a6 a7 a8 a9 a10 a11 a12 n s (nI i)) (fun i s => s = 0) (64 * f + 64) (64 * f) 0 (by omega) rfl ?_ ?_) (fun n hn => ⟨n, hn⟩)
  · intro n s h
    exact pk_le (64 * f + 64) (64 * f + 64) (fun _ => by rw [h]; exact hh) (fun z => absurd z (by omega)) (by rw [show (64 : Int32) = nI 64 from rfl, pk_mul, nI_add])
  · intro n i s hi h hw
    refine pk_le (64 * f + 64) i (fun z => absurd z (by omega)) (fun _ => ⟨pk_in i 256 (by omega), pk_in i 256 (by omega), nm_r (e' := 0) (by rw [nI_clamp (by omega), he i (by omega), Int32.sub_self]) (br_t (by decide) (nm_r (e' := 0) (by rw [h]; rfl) (nm_r (nI_1 i) (hw _ rfl))))⟩) (by rw [show (64 : Int32) = nI 64 from rfl, pk_mul, nI_add])
theorem tz_open {post : St2 → Prop} (H : ∀ b11 b12 : Nat → Int32, (∀ j, j < 256 → b11 j = 0) → (∀ j, j < 64 → b12 j = 0) → post (nI 160, nI 0, a1, a2, a3, a4, a5, a6, a7, a8, a9, a10, b11, b12)) : wpX_open post (fb, fp, a1, a2, a3, a4, a5, a6, a7, a8, a9, a10, a11, a12) 1 := by
  unfold wpX_open
  dsimp only
  refine nm_r (e' := nI 160) (by rfl) ?_
  refine pk_loop (σ := Nat → Int32) (fun n i s => wX_open_16 post (nI 160) 0 n (nI i) a1 a2 a3 a4 a5 a6 a7 a8 a9 a10 s a12) (fun i s => ∀ j, j < i → s j = 0) 256 0 a11 (by omega) lt_0
    (fun n s h => pk_le 256 256 (fun _ => ?_) (fun z => absurd z (by omega)))
    (fun n i s hi h hw => pk_le 256 i (fun z => absurd z (by omega)) (fun _ => ⟨pk_in i 256 hi, nm_e (nm_r (nI_1 i) (hw _ (tz_fill (f := fun _ => 0) (nI_clamp (by omega)) h rfl)))⟩))
  exact pk_loop (σ := Nat → Int32) (fun n i t => wX_open_38 post (nI 160) 0 n (nI i) a1 a2 a3 a4 a5 a6 a7 a8 a9 a10 s t) (fun i t => ∀ j, j < i → t j = 0) 64 0 a12 (by omega) lt_0
    (fun n t g => pk_le 64 64 (fun _ => H s t h g) (fun z => absurd z (by omega)))
    (fun n i t hi g hw => pk_le 64 i (fun z => absurd z (by omega)) (fun _ => ⟨pk_in i 64 hi, nm_e (nm_r (nI_1 i) (hw _ (tz_fill (f := fun _ => 0) (nI_clamp (by omega)) g rfl)))⟩))
theorem tz_still (x sg : Int32) : x + sg * ((12 : Int32) / 5 - 2) = x := by
  rw [show ((12 : Int32) / 5 - 2) = 0 by decide +kernel, Int32.mul_zero, Int32.add_zero]
theorem tz_still2 (x sg : Int32) : x + sg * (((12 : Int32) - (12 : Int32) / 5 * 5) - 2) = x := by
  rw [show (((12 : Int32) - (12 : Int32) / 5 * 5) - 2) = 0 by decide +kernel, Int32.mul_zero, Int32.add_zero]
theorem tz_along {post : Int32 → Prop} {sg : Int32} (fr l k : Nat) (hfr : fr < 4) (hl : l < 3) (hk : k < 64) (h8 : ∀ j, j < 12 → a8 j = 12) (h : post (a7 (64 * fr + k))) : wpX_along post (fb, fp, a1, a2, a3, a4, a5, a6, a7, a8, a9, a10, a11, a12) (nI fr) (nI l) (nI k) sg := by
  unfold wpX_along
  dsimp only
  refine nm_r (e' := nI (k % 8)) (pk_andN (by omega) 3 (by decide +kernel)) (nm_r (e' := nI (k / 8)) (pk_shrN (by omega) _ 3 (by decide +kernel)) ?_)
  have e1 : nI (k / 8) >>> ((2 : Int32) &&& 31) = nI (k / 8 / 4) := pk_shrN (by omega) _ 2 (by decide +kernel)
  have e2 : nI (k % 8) >>> ((2 : Int32) &&& 31) = nI (k % 8 / 4) := pk_shrN (by omega) _ 2 (by decide +kernel)
  have ei : (4 * nI l + 2 * (nI (k / 8) >>> ((2 : Int32) &&& 31))) + (nI (k % 8) >>> ((2 : Int32) &&& 31)) = nI (4 * l + 2 * (k / 8 / 4) + k % 8 / 4) := by
    rw [e1, e2, show (4 : Int32) = nI 4 from rfl, show (2 : Int32) = nI 2 from rfl, pk_mul, pk_mul, nI_add, nI_add]
  rw [ei, nI_clamp (by omega)]
  refine ⟨vp_in_nI (by omega) (by omega), nm_r (h8 _ (by omega)) ⟨by decide, ?_⟩⟩
  rw [tz_still, tz_still2]
  refine tz_lim (k % 8) (by omega) rfl ⟨by decide, tz_lim (k / 8) (by omega) rfl ?_⟩
  rw [tz_ix, nI_clamp (by omega)]
  refine ⟨vp_in_nI (by omega) (by omega), ?_⟩
  rw [show 64 * fr + 8 * (k / 8) + k % 8 = 64 * fr + k by omega]
  exact h
theorem tz_pr_0 (sg : Int32) (a : Nat → Int32) : a = tz_pr sg 0 a := funext (fun k => (tz_pr0 (by omega) (by omega)).symm)
theorem tz_ad_0 (sg : Int32) (a : Nat → Int32) : a = tz_ad sg 0 a := funext (fun k => (tz_ad0 (by omega) (by omega)).symm)
theorem tz_pr_s (sg : Int32) (a : Nat → Int32) {i : Nat} (hi : i < 64) : upd (upd (tz_pr sg i a) (64 + i) (tz_pr sg i a (64 + i) + sg * ((a i + a (128 + i)) >>> ((1 : Int32) &&& 31)))) (192 + i) (upd (tz_pr sg i a) (64 + i) (tz_pr sg i a (64 + i) + sg * ((a i + a (128 + i)) >>> ((1 : Int32) &&& 31))) (192 + i) + sg * a (128 + i)) = tz_pr sg (i + 1) a := by
  funext k
  by_cases h1 : k = 192 + i
  · rw [h1, pk_us, pk_un (by omega), tz_pr0 (by omega) (by omega), tz_pr2 (by omega) (by omega) (by omega), show 192 + i - 64 = 128 + i by omega]
  · rw [pk_un h1]
    by_cases h2 : k = 64 + i
    · rw [h2, pk_us, tz_pr0 (by omega) (by omega), tz_pr1 (by omega) (by omega), show 64 + i - 64 = i by omega, show 64 + i + 64 = 128 + i by omega]
    · rw [pk_un h2]
      unfold tz_pr
      by_cases h3 : 64 ≤ k ∧ k < 64 + i
      · rw [if_pos h3, if_pos ⟨h3.1, by omega⟩]
      · rw [if_neg h3, if_neg (c := 64 ≤ k ∧ k < 64 + (i + 1)) (by omega)]
        by_cases h4 : 192 ≤ k ∧ k < 192 + i
        · rw [if_pos h4, if_pos ⟨h4.1, by omega⟩]
        · rw [if_neg h4, if_neg (by omega)]
theorem tz_ad_s (sg : Int32) (a : Nat → Int32) {i : Nat} (hi : i < 64) : upd (upd (tz_ad sg i a) i (tz_ad sg i a i + sg * (a (64 + i) >>> ((1 : Int32) &&& 31)))) (128 + i) (upd (tz_ad sg i a) i (tz_ad sg i a i + sg * (a (64 + i) >>> ((1 : Int32) &&& 31))) (128 + i) + sg * ((a (64 + i) + a (192 + i) + 2) >>> ((2 : Int32) &&& 31))) = tz_ad sg (i + 1) a := by
  funext k
  by_cases h1 : k = 128 + i
  · rw [h1, pk_us, pk_un (by omega), tz_ad0 (by omega) (by omega), tz_ad2 (by omega) (by omega) (by omega), show 128 + i - 64 = 64 + i by omega, show 128 + i + 64 = 192 + i by omega]
  · rw [pk_un h1]
    by_cases h2 : k = i
    · rw [h2, pk_us, tz_ad0 (by omega) (by omega), tz_ad1 (by omega), show i + 64 = 64 + i by omega]
    · rw [pk_un h2]
      unfold tz_ad
      by_cases h3 : k < i
      · rw [if_pos h3, if_pos (by omega)]
      · rw [if_neg h3, if_neg (c := k < i + 1) (by omega)]
        by_cases h4 : 128 ≤ k ∧ k < 128 + i
        · rw [if_pos h4, if_pos ⟨h4.1, by omega⟩]
        · rw [if_neg h4, if_neg (by omega)]
theorem tz_predict {post : St2 → Prop} {sg : Int32} (h8 : ∀ j, j < 12 → a8 j = 12) (H : post (fb, fp, a1, a2, a3, a4, a5, a6, tz_pr sg 64 a7, a8, a9, a10, a11, a12)) : wpX_predict post (fb, fp, a1, a2, a3, a4, a5, a6, a7, a8, a9, a10, a11, a12) sg := by
  unfold wpX_predict
  dsimp only
  refine pk_loop (σ := Nat → Int32) (fun n i s => wX_predict_2 post sg fb fp n (nI i) a1 a2 a3 a4 a5 a6 s a8 a9 a10 a11 a12) (fun i s => s = tz_pr sg i a7) 64 0 a7 (by omega) (tz_pr_0 sg a7)
    (fun n s h => pk_le 64 64 (fun _ => by rw [h]; exact H) (fun z => absurd z (by omega)))
    (fun n i s hi h hw => pk_le 64 i (fun z => absurd z (by omega)) (fun _ => ?_))
  refine tz_along 0 0 i (by omega) (by omega) (by omega) h8 (tz_along 2 1 i (by omega) (by omega) (by omega) h8 (tz_along 2 2 i (by omega) (by omega) (by omega) h8 ?_))
  have e1 : (64 : Int32) + nI i = nI (64 + i) := nI_add 64 i
  have e2 : (192 : Int32) + nI i = nI (192 + i) := nI_add 192 i
  rw [e1, e2, nI_clamp (by omega), nI_clamp (by omega)]
  refine ⟨vp_in_nI (by omega) (by omega), vp_in_nI (by omega) (by omega), nm_e ⟨vp_in_nI (by omega) (by omega), vp_in_nI (by omega) (by omega), nm_e (nm_r (nI_1 i) (hw _ ?_))⟩⟩
  subst h
  rw [show 64 * 0 + i = i by omega, show 64 * 2 + i = 128 + i by omega, tz_pr0 (k := i) (by omega) (by omega), tz_pr0 (k := 128 + i) (by omega) (by omega)]
  exact tz_pr_s sg a7 hi
theorem tz_adjust {post : St2 → Prop} {sg : Int32} (h8 : ∀ j, j < 12 → a8 j = 12) (H : post (fb, fp, a1, a2, a3, a4, a5, a6, tz_ad sg 64 a7, a8, a9, a10, a11, a12)) : wpX_adjust post (fb, fp, a1, a2, a3, a4, a5, a6, a7, a8, a9, a10, a11, a12) sg := by
  unfold wpX_adjust
  dsimp only
  refine pk_loop (σ := Nat → Int32) (fun n i s => wX_adjust_2 post sg fb fp n (nI i) a1 a2 a3 a4 a5 a6 s a8 a9 a10 a11 a12) (fun i s => s = tz_ad sg i a7) 64 0 a7 (by omega) (tz_ad_0 sg a7)
    (fun n s h => pk_le 64 64 (fun _ => by rw [h]; exact H) (fun z => absurd z (by omega)))
    (fun n i s hi h hw => pk_le 64 i (fun z => absurd z (by omega)) (fun _ => ?_))
  refine tz_along 1 0 i (by omega) (by omega) (by omega) h8 (tz_along 1 1 i (by omega) (by omega) (by omega) h8 (tz_along 3 2 i (by omega) (by omega) (by omega) h8 ?_))
  have e2 : (128 : Int32) + nI i = nI (128 + i) := nI_add 128 i
  rw [e2, nI_clamp (by omega), nI_clamp (by omega)]
  refine ⟨vp_in_nI (by omega) (by omega), vp_in_nI (by omega) (by omega), nm_e ⟨vp_in_nI (by omega) (by omega), vp_in_nI (by omega) (by omega), nm_e (nm_r (nI_1 i) (hw _ ?_))⟩⟩
  subst h
  rw [show 64 * 1 + i = 64 + i by omega, show 64 * 3 + i = 192 + i by omega, tz_ad0 (k := 64 + i) (by omega) (by omega), tz_ad0 (k := 192 + i) (by omega) (by omega)]
  exact tz_ad_s sg a7 hi
end
end
section
/-! steps of a line -/
theorem tz_on_at {s g n : Nat} {a w a' : Nat → Int32} (h : tz_on s g n a w a') (j : Nat) (hj : j < n) {x : Int32} (hx : w j = x) : a' (s + j * g) = x := by
  rw [h.1 j hj, hx]
theorem tz_mk1 (c g : Nat) : (2 * c + 1) * g = 2 * c * g + g := by rw [Nat.add_mul, Nat.one_mul]
theorem tz_mk2 (c g : Nat) : (2 * c + 2) * g = 2 * c * g + g + g := by
  rw [Nat.add_mul, Nat.two_mul g, Nat.add_assoc]

theorem tz_od_step {s g n c : Nat} {a v t : Nat → Int32} {R : Int32} (hg : 0 < g) (hc : 2 * c + 1 < n) (hR : R = tz_rt n v (2 * c + 1)) (h : tz_on s g n a (fun j => if j < 2 * c then tz_od n v j else v j) t) : tz_on s g n a (fun j => if j < 2 * (c + 1) then tz_od n v j else v j) (upd t (s + (2 * c + 1) * g) (t (s + (2 * c + 1) * g) - ((t (s + 2 * c * g) + R) >>> ((1 : Int32) &&& 31)))) := by
  have r1 : t (s + (2 * c + 1) * g) = v (2 * c + 1) := tz_on_at h _ hc (if_neg (by omega))
  have r0 : t (s + 2 * c * g) = v (2 * c) := tz_on_at h (2 * c) (by omega) (if_neg (by omega))
  refine tz_on_u hg hc h ?_ ?_
  · show (if 2 * c + 1 < 2 * (c + 1) then tz_od n v (2 * c + 1) else v (2 * c + 1)) = _
    rw [if_pos (by omega), tz_od1 (by omega), r1, r0, hR, show 2 * c + 1 - 1 = 2 * c by omega]
  · intro j hj hne
    show (if j < 2 * (c + 1) then tz_od n v j else v j) = (if j < 2 * c then tz_od n v j else v j)
    by_cases q : j < 2 * c
    · rw [if_pos q, if_pos (by omega)]
    · rw [if_neg q]
      by_cases q2 : j = 2 * c
      · rw [if_pos (by omega), tz_od0 (by omega)]
      · rw [if_neg (by omega)]
theorem tz_odI_step {s g n c : Nat} {a v t : Nat → Int32} {R : Int32} (hg : 0 < g) (hc : 2 * c + 1 < n) (hR : R = tz_rt n v (2 * c + 1)) (h : tz_on s g n a (fun j => if j < 2 * c then tz_odI n v j else v j) t) : tz_on s g n a (fun j => if j < 2 * (c + 1) then tz_odI n v j else v j) (upd t (s + (2 * c + 1) * g) (t (s + (2 * c + 1) * g) + ((t (s + 2 * c * g) + R) >>> ((1 : Int32) &&& 31)))) := by
  have r1 : t (s + (2 * c + 1) * g) = v (2 * c + 1) := tz_on_at h _ hc (if_neg (by omega))
  have r0 : t (s + 2 * c * g) = v (2 * c) := tz_on_at h (2 * c) (by omega) (if_neg (by omega))
  refine tz_on_u hg hc h ?_ ?_
  · show (if 2 * c + 1 < 2 * (c + 1) then tz_odI n v (2 * c + 1) else v (2 * c + 1)) = _
    rw [if_pos (by omega), tz_odI1 (by omega), r1, r0, hR, show 2 * c + 1 - 1 = 2 * c by omega]
  · intro j hj hne
    show (if j < 2 * (c + 1) then tz_odI n v j else v j) = (if j < 2 * c then tz_odI n v j else v j)
    by_cases q : j < 2 * c
    · rw [if_pos q, if_pos (by omega)]
    · rw [if_neg q]
      by_cases q2 : j = 2 * c
      · rw [if_pos (by omega), tz_odI0 (by omega)]
      · rw [if_neg (by omega)]
theorem tz_ev_step {s g n c : Nat} {a v t : Nat → Int32} {R : Int32} (hg : 0 < g) (hc : 2 * c + 1 < n) (hR : R = tz_lf v (2 * c)) (h : tz_on s g n a (fun j => if j < 2 * c then tz_ev v j else v j) t) : tz_on s g n a (fun j => if j < 2 * (c + 1) then tz_ev v j else v j) (upd t (s + 2 * c * g) (t (s + 2 * c * g) + ((R + t (s + (2 * c + 1) * g) + 2) >>> ((2 : Int32) &&& 31)))) := by
  have r1 : t (s + (2 * c + 1) * g) = v (2 * c + 1) := tz_on_at h _ hc (if_neg (by omega))
  have r0 : t (s + 2 * c * g) = v (2 * c) := tz_on_at h (2 * c) (by omega) (if_neg (by omega))
  refine tz_on_u hg (i := 2 * c) (by omega) h ?_ ?_
  · show (if 2 * c < 2 * (c + 1) then tz_ev v (2 * c) else v (2 * c)) = _
    rw [if_pos (by omega), tz_ev0 (by omega), r1, r0, hR]
  · intro j hj hne
    show (if j < 2 * (c + 1) then tz_ev v j else v j) = (if j < 2 * c then tz_ev v j else v j)
    by_cases q : j < 2 * c
    · rw [if_pos q, if_pos (by omega)]
    · rw [if_neg q]
      by_cases q2 : j = 2 * c + 1
      · rw [if_pos (by omega), tz_ev1 (by omega)]
      · rw [if_neg (by omega)]
theorem tz_evI_step {s g n c : Nat} {a v t : Nat → Int32} {R : Int32} (hg : 0 < g) (hc : 2 * c + 1 < n) (hR : R = tz_lf v (2 * c)) (h : tz_on s g n a (fun j => if j < 2 * c then tz_evI v j else v j) t) : tz_on s g n a (fun j => if j < 2 * (c + 1) then tz_evI v j else v j) (upd t (s + 2 * c * g) (t (s + 2 * c * g) - ((R + t (s + (2 * c + 1) * g) + 2) >>> ((2 : Int32) &&& 31)))) := by
  have r1 : t (s + (2 * c + 1) * g) = v (2 * c + 1) := tz_on_at h _ hc (if_neg (by omega))
  have r0 : t (s + 2 * c * g) = v (2 * c) := tz_on_at h (2 * c) (by omega) (if_neg (by omega))
  refine tz_on_u hg (i := 2 * c) (by omega) h ?_ ?_
  · show (if 2 * c < 2 * (c + 1) then tz_evI v (2 * c) else v (2 * c)) = _
    rw [if_pos (by omega), tz_evI0 (by omega), r1, r0, hR]
  · intro j hj hne
    show (if j < 2 * (c + 1) then tz_evI v j else v j) = (if j < 2 * c then tz_evI v j else v j)
    by_cases q : j < 2 * c
    · rw [if_pos q, if_pos (by omega)]
    · rw [if_neg q]
      by_cases q2 : j = 2 * c + 1
      · rw [if_pos (by omega), tz_evI1 (by omega)]
      · rw [if_neg (by omega)]
section
variable {fb fp : Int32} {a1 a2 a3 a4 a5 a6 a7 a8 a9 a10 a11 a12 : Nat → Int32}
theorem tz_liftO {post : St2 → Prop} {J : Int32 → (Nat → Int32) → (Nat → Int32) → (Nat → Int32) → (Nat → Int32) → (Nat → Int32) → (Nat → Int32) → (Nat → Int32) → (Nat → Int32) → (Nat → Int32) → (Nat → Int32) → (Nat → Int32) → (Nat → Int32) → Prop} {x1 x2 x3 x4 x5 z0 : Int32} (X Y : Nat) (hX : X < 256) (hY : Y < 256) (e : x5 = nI X) (em : x5 - x2 = nI Y) (H : J (x4 + 2) a1 a2 a3 a4 a5 a6 (upd a7 X (a7 X - ((a7 Y + z0) >>> ((1 : Int32) &&& 31)))) a8 a9 a10 a11 a12) : wX_lift_46 post J x1 x2 x3 x4 x5 z0 fb fp a1 a2 a3 a4 a5 a6 a7 a8 a9 a10 a11 a12 := by
  subst e
  unfold wX_lift_46
  rw [em, nI_clamp (by omega), nI_clamp (by omega)]
  exact ⟨vp_in_nI (by omega) (by omega), vp_in_nI (by omega) (by omega), vp_in_nI (by omega) (by omega), nm_e (nm_e H)⟩
theorem tz_liftE {post : St2 → Prop} {J : Int32 → (Nat → Int32) → (Nat → Int32) → (Nat → Int32) → (Nat → Int32) → (Nat → Int32) → (Nat → Int32) → (Nat → Int32) → (Nat → Int32) → (Nat → Int32) → (Nat → Int32) → (Nat → Int32) → (Nat → Int32) → Prop} {x1 x2 x3 x4 x5 z0 : Int32} (X Y : Nat) (hX : X < 256) (hY : Y < 256) (e : x5 = nI X) (em : x5 + x2 = nI Y) (H : J (x4 + 2) a1 a2 a3 a4 a5 a6 (upd a7 X (a7 X + ((z0 + a7 Y + 2) >>> ((2 : Int32) &&& 31)))) a8 a9 a10 a11 a12) : wX_lift_121 post J x1 x2 x3 x4 x5 z0 fb fp a1 a2 a3 a4 a5 a6 a7 a8 a9 a10 a11 a12 := by
  subst e
  unfold wX_lift_121
  rw [em, nI_clamp (by omega), nI_clamp (by omega)]
  exact ⟨vp_in_nI (by omega) (by omega), vp_in_nI (by omega) (by omega), vp_in_nI (by omega) (by omega), nm_e (nm_e H)⟩
theorem tz_unliftO {post : St2 → Prop} {J : Int32 → (Nat → Int32) → (Nat → Int32) → (Nat → Int32) → (Nat → Int32) → (Nat → Int32) → (Nat → Int32) → (Nat → Int32) → (Nat → Int32) → (Nat → Int32) → (Nat → Int32) → (Nat → Int32) → (Nat → Int32) → Prop} {x1 x2 x3 x4 x5 z0 : Int32} (X Y : Nat) (hX : X < 256) (hY : Y < 256) (e : x5 = nI X) (em : x5 - x2 = nI Y) (H : J (x4 + 2) a1 a2 a3 a4 a5 a6 (upd a7 X (a7 X + ((a7 Y + z0) >>> ((1 : Int32) &&& 31)))) a8 a9 a10 a11 a12) : wX_unlift_123 post J x1 x2 x3 x4 x5 z0 fb fp a1 a2 a3 a4 a5 a6 a7 a8 a9 a10 a11 a12 := by
  subst e
  unfold wX_unlift_123
  rw [em, nI_clamp (by omega), nI_clamp (by omega)]
  exact ⟨vp_in_nI (by omega) (by omega), vp_in_nI (by omega) (by omega), vp_in_nI (by omega) (by omega), nm_e (nm_e H)⟩
theorem tz_unliftE {post : St2 → Prop} {J : Int32 → (Nat → Int32) → (Nat → Int32) → (Nat → Int32) → (Nat → Int32) → (Nat → Int32) → (Nat → Int32) → (Nat → Int32) → (Nat → Int32) → (Nat → Int32) → (Nat → Int32) → (Nat → Int32) → (Nat → Int32) → Prop} {x1 x2 x3 x4 x5 z0 : Int32} (X Y : Nat) (hX : X < 256) (hY : Y < 256) (e : x5 = nI X) (em : x5 + x2 = nI Y) (H : J (x4 + 2) a1 a2 a3 a4 a5 a6 (upd a7 X (a7 X - ((z0 + a7 Y + 2) >>> ((2 : Int32) &&& 31)))) a8 a9 a10 a11 a12) : wX_unlift_43 post J x1 x2 x3 x4 x5 z0 fb fp a1 a2 a3 a4 a5 a6 a7 a8 a9 a10 a11 a12 := by
  subst e
  unfold wX_unlift_43
  rw [em, nI_clamp (by omega), nI_clamp (by omega)]
  exact ⟨vp_in_nI (by omega) (by omega), vp_in_nI (by omega) (by omega), vp_in_nI (by omega) (by omega), nm_e (nm_e H)⟩
theorem tz_lift_81 {post : St2 → Prop} {s g n : Nat} {v : Nat → Int32} {b7 : Nat → Int32} (hg : 0 < g) (hg2 : g < 256) (hn : n % 2 = 0) (hn2 : n < 256) (hb : ∀ j, j < n → s + j * g < 256) (h0 : tz_on s g n b7 v a7) (H : ∀ t : Nat → Int32, tz_on s g n b7 (tz_ev v) t → post (fb, fp, a1, a2, a3, a4, a5, a6, t, a8, a9, a10, a11, a12)) : ∃ k, wX_lift_81 post (nI s) (nI g) (nI n) fb fp k 0 a1 a2 a3 a4 a5 a6 a7 a8 a9 a10 a11 a12 := by
  refine pk_loop (σ := Nat → Int32) (fun k c t => wX_lift_81 post (nI s) (nI g) (nI n) fb fp k (nI (2 * c)) a1 a2 a3 a4 a5 a6 t a8 a9 a10 a11 a12) (fun c t => tz_on s g n b7 (fun j => if j < 2 * c then tz_ev v j else v j) t) (n / 2) 0 a7 (Nat.zero_le _) (tz_on_c h0 (fun j _ => (if_neg (by omega)).symm))
    (fun k t h => pk_le n (2 * (n / 2)) (fun _ => H t (tz_on_c h (fun j hj => if_pos (by omega)))) (fun z => absurd z (by omega)))
    (fun k c t hc h hw => pk_le n (2 * c) (fun z => absurd z (by omega)) (fun _ => nm_r (e' := nI (s + 2 * c * g)) (by rw [pk_mul, nI_add]) ?_))
  have m1 := tz_mk1 c g
  have b1 := hb (2 * c + 1) (by omega)
  have ep : nI (s + 2 * c * g) + nI g = nI (s + (2 * c + 1) * g) := by
    rw [nI_add]
    exact congrArg nI (by omega)
  have e2 : nI (2 * c) + 2 = nI (2 * (c + 1)) := nI_add (2 * c) 2
  rw [ep, nI_clamp (n := s + (2 * c + 1) * g) (by omega)]
  refine pk_le (2 * c) 0 (fun q => ⟨vp_in_nI (by omega) (by omega), tz_liftE _ _ (by omega) (by omega) rfl ep ?_⟩) (fun q => ?_)
  · rw [e2]
    refine hw _ (tz_ev_step hg (by omega) ?_ h)
    unfold tz_lf
    rw [if_neg (by omega)]
    exact tz_on_at h (2 * c + 1) (by omega) (if_neg (by omega))
  · have m0 := tz_mk1 (c - 1) g
    have m3 := tz_mk2 (c - 1) g
    rw [show 2 * (c - 1) + 2 = 2 * c by omega] at m3
    rw [show 2 * (c - 1) + 1 = 2 * c - 1 by omega] at m0
    have em : nI (s + 2 * c * g) - nI g = nI (s + (2 * c - 1) * g) := by
      rw [pk_sub (by omega)]
      exact congrArg nI (by omega)
    rw [em, nI_clamp (by omega)]
    refine ⟨vp_in_nI (by omega) (by omega), tz_liftE _ _ (by omega) (by omega) rfl ep ?_⟩
    rw [e2]
    refine hw _ (tz_ev_step hg (by omega) ?_ h)
    unfold tz_lf
    rw [if_pos (by omega)]
    refine tz_on_at h (2 * c - 1) (by omega) ?_
    show (if 2 * c - 1 < 2 * c then tz_ev v (2 * c - 1) else v (2 * c - 1)) = _
    rw [if_pos (by omega), tz_ev1 (by omega)]
theorem tz_lift_3 {post : St2 → Prop} {s g n : Nat} {v : Nat → Int32} {b7 : Nat → Int32} (hg : 0 < g) (hg2 : g < 256) (hn : n % 2 = 0) (hn2 : n < 256) (hb : ∀ j, j < n → s + j * g < 256) (h0 : tz_on s g n b7 v a7) (H : ∀ t : Nat → Int32, tz_on s g n b7 (tz_od n v) t → ∃ k, wX_lift_81 post (nI s) (nI g) (nI n) fb fp k 0 a1 a2 a3 a4 a5 a6 t a8 a9 a10 a11 a12) : ∃ k, wX_lift_3 post (nI s) (nI g) (nI n) fb fp k 1 a1 a2 a3 a4 a5 a6 a7 a8 a9 a10 a11 a12 := by
  refine pk_loop (σ := Nat → Int32) (fun k c t => wX_lift_3 post (nI s) (nI g) (nI n) fb fp k (nI (2 * c + 1)) a1 a2 a3 a4 a5 a6 t a8 a9 a10 a11 a12) (fun c t => tz_on s g n b7 (fun j => if j < 2 * c then tz_od n v j else v j) t) (n / 2) 0 a7 (Nat.zero_le _) (tz_on_c h0 (fun j _ => (if_neg (by omega)).symm))
    (fun k t h => pk_le n (2 * (n / 2) + 1) (fun _ => H t (tz_on_c h (fun j hj => if_pos (by omega)))) (fun z => absurd z (by omega)))
    (fun k c t hc h hw => pk_le n (2 * c + 1) (fun z => absurd z (by omega)) (fun _ => nm_r (e' := nI (s + (2 * c + 1) * g)) (by rw [pk_mul, nI_add]) ?_))
  have m1 := tz_mk1 c g
  have m2 := tz_mk2 c g
  have b1 := hb (2 * c + 1) (by omega)
  have em : nI (s + (2 * c + 1) * g) - nI g = nI (s + 2 * c * g) := by
    rw [pk_sub (by omega)]
    exact congrArg nI (by omega)
  have ep : nI (s + (2 * c + 1) * g) + nI g = nI (s + (2 * c + 2) * g) := by
    rw [nI_add]
    exact congrArg nI (by omega)
  have e2 : nI (2 * c + 1) + 2 = nI (2 * (c + 1) + 1) := nI_add (2 * c + 1) 2
  rw [em, ep, nI_clamp (n := s + 2 * c * g) (by omega)]
  refine pk_le n (2 * c + 1 + 1) (fun q => ⟨vp_in_nI (by omega) (by omega), tz_liftO _ _ (by omega) (by omega) rfl em ?_⟩) (fun q => ?_) rfl (nI_1 _)
  · rw [e2]
    refine hw _ (tz_od_step hg (by omega) ?_ h)
    unfold tz_rt
    rw [if_neg (by omega), show 2 * c + 1 - 1 = 2 * c by omega]
    exact tz_on_at h (2 * c) (by omega) (if_neg (by omega))
  · have b2 := hb (2 * c + 2) (by omega)
    rw [nI_clamp (by omega)]
    refine ⟨vp_in_nI (by omega) (by omega), tz_liftO _ _ (by omega) (by omega) rfl em ?_⟩
    rw [e2]
    refine hw _ (tz_od_step hg (by omega) ?_ h)
    unfold tz_rt
    rw [if_pos (by omega)]
    exact tz_on_at h (2 * c + 2) (by omega) (if_neg (by omega))
theorem tz_unlift_80 {post : St2 → Prop} {s g n : Nat} {v : Nat → Int32} {b7 : Nat → Int32} (hg : 0 < g) (hg2 : g < 256) (hn : n % 2 = 0) (hn2 : n < 256) (hb : ∀ j, j < n → s + j * g < 256) (h0 : tz_on s g n b7 v a7) (H : ∀ t : Nat → Int32, tz_on s g n b7 (tz_odI n v) t → post (fb, fp, a1, a2, a3, a4, a5, a6, t, a8, a9, a10, a11, a12)) : ∃ k, wX_unlift_80 post (nI s) (nI g) (nI n) fb fp k 1 a1 a2 a3 a4 a5 a6 a7 a8 a9 a10 a11 a12 := by
  refine pk_loop (σ := Nat → Int32) (fun k c t => wX_unlift_80 post (nI s) (nI g) (nI n) fb fp k (nI (2 * c + 1)) a1 a2 a3 a4 a5 a6 t a8 a9 a10 a11 a12) (fun c t => tz_on s g n b7 (fun j => if j < 2 * c then tz_odI n v j else v j) t) (n / 2) 0 a7 (Nat.zero_le _) (tz_on_c h0 (fun j _ => (if_neg (by omega)).symm))
    (fun k t h => pk_le n (2 * (n / 2) + 1) (fun _ => H t (tz_on_c h (fun j hj => if_pos (by omega)))) (fun z => absurd z (by omega)))
    (fun k c t hc h hw => pk_le n (2 * c + 1) (fun z => absurd z (by omega)) (fun _ => nm_r (e' := nI (s + (2 * c + 1) * g)) (by rw [pk_mul, nI_add]) ?_))
  have m1 := tz_mk1 c g
  have m2 := tz_mk2 c g
  have b1 := hb (2 * c + 1) (by omega)
  have em : nI (s + (2 * c + 1) * g) - nI g = nI (s + 2 * c * g) := by
    rw [pk_sub (by omega)]
    exact congrArg nI (by omega)
  have ep : nI (s + (2 * c + 1) * g) + nI g = nI (s + (2 * c + 2) * g) := by
    rw [nI_add]
    exact congrArg nI (by omega)
  have e2 : nI (2 * c + 1) + 2 = nI (2 * (c + 1) + 1) := nI_add (2 * c + 1) 2
  rw [em, ep, nI_clamp (n := s + 2 * c * g) (by omega)]
  refine pk_le n (2 * c + 1 + 1) (fun q => ⟨vp_in_nI (by omega) (by omega), tz_unliftO _ _ (by omega) (by omega) rfl em ?_⟩) (fun q => ?_) rfl (nI_1 _)
  · rw [e2]
    refine hw _ (tz_odI_step hg (by omega) ?_ h)
    unfold tz_rt
    rw [if_neg (by omega), show 2 * c + 1 - 1 = 2 * c by omega]
    exact tz_on_at h (2 * c) (by omega) (if_neg (by omega))
  · have b2 := hb (2 * c + 2) (by omega)
    rw [nI_clamp (by omega)]
    refine ⟨vp_in_nI (by omega) (by omega), tz_unliftO _ _ (by omega) (by omega) rfl em ?_⟩
    rw [e2]
    refine hw _ (tz_odI_step hg (by omega) ?_ h)
    unfold tz_rt
    rw [if_pos (by omega)]
    exact tz_on_at h (2 * c + 2) (by omega) (if_neg (by omega))
theorem tz_unlift_3 {post : St2 → Prop} {s g n : Nat} {v : Nat → Int32} {b7 : Nat → Int32} (hg : 0 < g) (hg2 : g < 256) (hn : n % 2 = 0) (hn2 : n < 256) (hb : ∀ j, j < n → s + j * g < 256) (h0 : tz_on s g n b7 v a7) (H : ∀ t : Nat → Int32, tz_on s g n b7 (tz_evI v) t → ∃ k, wX_unlift_80 post (nI s) (nI g) (nI n) fb fp k 1 a1 a2 a3 a4 a5 a6 t a8 a9 a10 a11 a12) : ∃ k, wX_unlift_3 post (nI s) (nI g) (nI n) fb fp k 0 a1 a2 a3 a4 a5 a6 a7 a8 a9 a10 a11 a12 := by
  refine pk_loop (σ := Nat → Int32) (fun k c t => wX_unlift_3 post (nI s) (nI g) (nI n) fb fp k (nI (2 * c)) a1 a2 a3 a4 a5 a6 t a8 a9 a10 a11 a12) (fun c t => tz_on s g n b7 (fun j => if j < 2 * c then tz_evI v j else v j) t) (n / 2) 0 a7 (Nat.zero_le _) (tz_on_c h0 (fun j _ => (if_neg (by omega)).symm))
    (fun k t h => pk_le n (2 * (n / 2)) (fun _ => H t (tz_on_c h (fun j hj => if_pos (by omega)))) (fun z => absurd z (by omega)))
    (fun k c t hc h hw => pk_le n (2 * c) (fun z => absurd z (by omega)) (fun _ => nm_r (e' := nI (s + 2 * c * g)) (by rw [pk_mul, nI_add]) ?_))
  have m1 := tz_mk1 c g
  have b1 := hb (2 * c + 1) (by omega)
  have ep : nI (s + 2 * c * g) + nI g = nI (s + (2 * c + 1) * g) := by
    rw [nI_add]
    exact congrArg nI (by omega)
  have e2 : nI (2 * c) + 2 = nI (2 * (c + 1)) := nI_add (2 * c) 2
  rw [ep, nI_clamp (n := s + (2 * c + 1) * g) (by omega)]
  refine pk_le (2 * c) 0 (fun q => ⟨vp_in_nI (by omega) (by omega), tz_unliftE _ _ (by omega) (by omega) rfl ep ?_⟩) (fun q => ?_)
  · rw [e2]
    refine hw _ (tz_evI_step hg (by omega) ?_ h)
    unfold tz_lf
    rw [if_neg (by omega)]
    exact tz_on_at h (2 * c + 1) (by omega) (if_neg (by omega))
  · have m0 := tz_mk1 (c - 1) g
    have m3 := tz_mk2 (c - 1) g
    rw [show 2 * (c - 1) + 2 = 2 * c by omega] at m3
    rw [show 2 * (c - 1) + 1 = 2 * c - 1 by omega] at m0
    have em : nI (s + 2 * c * g) - nI g = nI (s + (2 * c - 1) * g) := by
      rw [pk_sub (by omega)]
      exact congrArg nI (by omega)
    rw [em, nI_clamp (by omega)]
    refine ⟨vp_in_nI (by omega) (by omega), tz_unliftE _ _ (by omega) (by omega) rfl ep ?_⟩
    rw [e2]
    refine hw _ (tz_evI_step hg (by omega) ?_ h)
    unfold tz_lf
    rw [if_pos (by omega)]
    refine tz_on_at h (2 * c - 1) (by omega) ?_
    show (if 2 * c - 1 < 2 * c then tz_evI v (2 * c - 1) else v (2 * c - 1)) = _
    rw [if_pos (by omega), tz_evI1 (by omega)]
theorem tz_lift {post : St2 → Prop} (s g n : Nat) {p0 p1 p2 : Int32} (hg : 0 < g) (hg2 : g < 256) (hn : n % 2 = 0) (hn2 : n < 256) (hb : ∀ j, j < n → s + j * g < 256) (H : ∀ t : Nat → Int32, tz_on s g n a7 (tz_L n (fun j => a7 (s + j * g))) t → post (fb, fp, a1, a2, a3, a4, a5, a6, t, a8, a9, a10, a11, a12)) (e0 : p0 = nI s) (e1 : p1 = nI g := by rfl) (e2 : p2 = nI n := by rfl) : wpX_lift post (fb, fp, a1, a2, a3, a4, a5, a6, a7, a8, a9, a10, a11, a12) p0 p1 p2 := by
  subst e0 e1 e2
  unfold wpX_lift
  dsimp only
  exact tz_lift_3 hg hg2 hn hn2 hb (tz_on_0 s g n a7) (fun t h => tz_lift_81 hg hg2 hn hn2 hb h H)
theorem tz_unlift {post : St2 → Prop} (s g n : Nat) {p0 p1 p2 : Int32} (hg : 0 < g) (hg2 : g < 256) (hn : n % 2 = 0) (hn2 : n < 256) (hb : ∀ j, j < n → s + j * g < 256) (H : ∀ t : Nat → Int32, tz_on s g n a7 (tz_U n (fun j => a7 (s + j * g))) t → post (fb, fp, a1, a2, a3, a4, a5, a6, t, a8, a9, a10, a11, a12)) (e0 : p0 = nI s) (e1 : p1 = nI g := by rfl) (e2 : p2 = nI n := by rfl) : wpX_unlift post (fb, fp, a1, a2, a3, a4, a5, a6, a7, a8, a9, a10, a11, a12) p0 p1 p2 := by
  subst e0 e1 e2
  unfold wpX_unlift
  dsimp only
  exact tz_unlift_3 hg hg2 hn hn2 hb (tz_on_0 s g n a7) (fun t h => tz_unlift_80 hg hg2 hn hn2 hb h H)
theorem tz_analyse_79 {post : St2 → Prop} {s : Nat} (hs : s + 64 ≤ 256) (H : ∀ t : Nat → Int32, tz_ps (tz_L 4) s 2 16 4 4 a7 t → post (fb, fp, a1, a2, a3, a4, a5, a6, t, a8, a9, a10, a11, a12)) : ∃ k, wX_analyse_79 post (nI s) k 0 fb fp a1 a2 a3 a4 a5 a6 a7 a8 a9 a10 a11 a12 := by
  refine pk_loop (σ := Nat → Int32) (fun k i t => wX_analyse_79 post (nI s) k (nI i) fb fp a1 a2 a3 a4 a5 a6 t a8 a9 a10 a11 a12) (fun i t => tz_pc (tz_L 4) s 2 16 4 4 i a7 t) 4 0 a7 (by omega) (tz_pc_0 _ _ _ _ _ _ _)
    (fun k t h => pk_le 4 4 (fun _ => H t (tz_pc_e h)) (fun z => absurd z (by omega)))
    (fun k i t hi h hw => pk_le 4 i (fun z => absurd z (by omega)) (fun _ => ?_))
  refine tz_lift (s + i * 2) 16 4 (by omega) (by omega) (by omega) (by omega) (fun j hj => by omega) (fun t' h' => ?_) (by rw [show (2 : Int32) = nI 2 from rfl, pk_mul, nI_add, Nat.mul_comm])
  exact nm_r (nI_1 i) (hw _ (tz_pc_s (tz_cg_L (by decide)) tz_inj4 hi h h'))
theorem tz_analyse_54 {post : St2 → Prop} {s : Nat} (hs : s + 64 ≤ 256) (H : ∀ t : Nat → Int32, tz_ps (tz_L 4) s 16 2 4 4 a7 t → ∃ k, wX_analyse_79 post (nI s) k 0 fb fp a1 a2 a3 a4 a5 a6 t a8 a9 a10 a11 a12) : ∃ k, wX_analyse_54 post (nI s) k 0 fb fp a1 a2 a3 a4 a5 a6 a7 a8 a9 a10 a11 a12 := by
  refine pk_loop (σ := Nat → Int32) (fun k i t => wX_analyse_54 post (nI s) k (nI i) fb fp a1 a2 a3 a4 a5 a6 t a8 a9 a10 a11 a12) (fun i t => tz_pc (tz_L 4) s 16 2 4 4 i a7 t) 4 0 a7 (by omega) (tz_pc_0 _ _ _ _ _ _ _)
    (fun k t h => pk_le 4 4 (fun _ => H t (tz_pc_e h)) (fun z => absurd z (by omega)))
    (fun k i t hi h hw => pk_le 4 i (fun z => absurd z (by omega)) (fun _ => ?_))
  refine tz_lift (s + i * 16) 2 4 (by omega) (by omega) (by omega) (by omega) (fun j hj => by omega) (fun t' h' => ?_) (by rw [show (16 : Int32) = nI 16 from rfl, pk_mul, nI_add, Nat.mul_comm])
  exact nm_r (nI_1 i) (hw _ (tz_pc_s (tz_cg_L (by decide)) tz_inj3 hi h h'))
theorem tz_analyse_29 {post : St2 → Prop} {s : Nat} (hs : s + 64 ≤ 256) (H : ∀ t : Nat → Int32, tz_ps (tz_L 8) s 1 8 8 8 a7 t → ∃ k, wX_analyse_54 post (nI s) k 0 fb fp a1 a2 a3 a4 a5 a6 t a8 a9 a10 a11 a12) : ∃ k, wX_analyse_29 post (nI s) k 0 fb fp a1 a2 a3 a4 a5 a6 a7 a8 a9 a10 a11 a12 := by
  refine pk_loop (σ := Nat → Int32) (fun k i t => wX_analyse_29 post (nI s) k (nI i) fb fp a1 a2 a3 a4 a5 a6 t a8 a9 a10 a11 a12) (fun i t => tz_pc (tz_L 8) s 1 8 8 8 i a7 t) 8 0 a7 (by omega) (tz_pc_0 _ _ _ _ _ _ _)
    (fun k t h => pk_le 8 8 (fun _ => H t (tz_pc_e h)) (fun z => absurd z (by omega)))
    (fun k i t hi h hw => pk_le 8 i (fun z => absurd z (by omega)) (fun _ => ?_))
  refine tz_lift (s + i * 1) 8 8 (by omega) (by omega) (by omega) (by omega) (fun j hj => by omega) (fun t' h' => ?_) (by rw [nI_add, Nat.mul_one])
  exact nm_r (nI_1 i) (hw _ (tz_pc_s (tz_cg_L (by decide)) tz_inj2 hi h h'))
theorem tz_analyse_2 {post : St2 → Prop} {s : Nat} (hs : s + 64 ≤ 256) (H : ∀ t : Nat → Int32, tz_ps (tz_L 8) s 8 1 8 8 a7 t → ∃ k, wX_analyse_29 post (nI s) k 0 fb fp a1 a2 a3 a4 a5 a6 t a8 a9 a10 a11 a12) : ∃ k, wX_analyse_2 post (nI s) k 0 fb fp a1 a2 a3 a4 a5 a6 a7 a8 a9 a10 a11 a12 := by
  refine pk_loop (σ := Nat → Int32) (fun k i t => wX_analyse_2 post (nI s) k (nI i) fb fp a1 a2 a3 a4 a5 a6 t a8 a9 a10 a11 a12) (fun i t => tz_pc (tz_L 8) s 8 1 8 8 i a7 t) 8 0 a7 (by omega) (tz_pc_0 _ _ _ _ _ _ _)
    (fun k t h => pk_le 8 8 (fun _ => H t (tz_pc_e h)) (fun z => absurd z (by omega)))
    (fun k i t hi h hw => pk_le 8 i (fun z => absurd z (by omega)) (fun _ => ?_))
  refine tz_lift (s + i * 8) 1 8 (by omega) (by omega) (by omega) (by omega) (fun j hj => by omega) (fun t' h' => ?_) (by rw [show (8 : Int32) = nI 8 from rfl, pk_mul, nI_add, Nat.mul_comm])
  exact nm_r (nI_1 i) (hw _ (tz_pc_s (tz_cg_L (by decide)) tz_inj1 hi h h'))
theorem tz_analyse {post : St2 → Prop} (s : Nat) {p0 : Int32} (hs : s + 64 ≤ 256) (H : ∀ t : Nat → Int32, tz_an s a7 t → post (fb, fp, a1, a2, a3, a4, a5, a6, t, a8, a9, a10, a11, a12)) (e0 : p0 = nI s) : wpX_analyse post (fb, fp, a1, a2, a3, a4, a5, a6, a7, a8, a9, a10, a11, a12) p0 := by
  subst e0
  unfold wpX_analyse
  dsimp only
  exact tz_analyse_2 hs (fun b h1 => tz_analyse_29 hs (fun c h2 => tz_analyse_54 hs (fun d h3 => tz_analyse_79 hs (fun t h4 => H t ⟨b, c, d, h1, h2, h3, h4⟩))))
theorem tz_synthesise_77 {post : St2 → Prop} {s : Nat} (hs : s + 64 ≤ 256) (H : ∀ t : Nat → Int32, tz_ps (tz_U 8) s 8 1 8 8 a7 t → post (fb, fp, a1, a2, a3, a4, a5, a6, t, a8, a9, a10, a11, a12)) : ∃ k, wX_synthesise_77 post (nI s) k 0 fb fp a1 a2 a3 a4 a5 a6 a7 a8 a9 a10 a11 a12 := by
  refine pk_loop (σ := Nat → Int32) (fun k i t => wX_synthesise_77 post (nI s) k (nI i) fb fp a1 a2 a3 a4 a5 a6 t a8 a9 a10 a11 a12) (fun i t => tz_pc (tz_U 8) s 8 1 8 8 i a7 t) 8 0 a7 (by omega) (tz_pc_0 _ _ _ _ _ _ _)
    (fun k t h => pk_le 8 8 (fun _ => H t (tz_pc_e h)) (fun z => absurd z (by omega)))
    (fun k i t hi h hw => pk_le 8 i (fun z => absurd z (by omega)) (fun _ => ?_))
  refine tz_unlift (s + i * 8) 1 8 (by omega) (by omega) (by omega) (by omega) (fun j hj => by omega) (fun t' h' => ?_) (by rw [show (8 : Int32) = nI 8 from rfl, pk_mul, nI_add, Nat.mul_comm])
  exact nm_r (nI_1 i) (hw _ (tz_pc_s (tz_cg_U (by decide)) tz_inj1 hi h h'))
theorem tz_synthesise_52 {post : St2 → Prop} {s : Nat} (hs : s + 64 ≤ 256) (H : ∀ t : Nat → Int32, tz_ps (tz_U 8) s 1 8 8 8 a7 t → ∃ k, wX_synthesise_77 post (nI s) k 0 fb fp a1 a2 a3 a4 a5 a6 t a8 a9 a10 a11 a12) : ∃ k, wX_synthesise_52 post (nI s) k 0 fb fp a1 a2 a3 a4 a5 a6 a7 a8 a9 a10 a11 a12 := by
  refine pk_loop (σ := Nat → Int32) (fun k i t => wX_synthesise_52 post (nI s) k (nI i) fb fp a1 a2 a3 a4 a5 a6 t a8 a9 a10 a11 a12) (fun i t => tz_pc (tz_U 8) s 1 8 8 8 i a7 t) 8 0 a7 (by omega) (tz_pc_0 _ _ _ _ _ _ _)
    (fun k t h => pk_le 8 8 (fun _ => H t (tz_pc_e h)) (fun z => absurd z (by omega)))
    (fun k i t hi h hw => pk_le 8 i (fun z => absurd z (by omega)) (fun _ => ?_))
  refine tz_unlift (s + i * 1) 8 8 (by omega) (by omega) (by omega) (by omega) (fun j hj => by omega) (fun t' h' => ?_) (by rw [nI_add, Nat.mul_one])
  exact nm_r (nI_1 i) (hw _ (tz_pc_s (tz_cg_U (by decide)) tz_inj2 hi h h'))
theorem tz_synthesise_27 {post : St2 → Prop} {s : Nat} (hs : s + 64 ≤ 256) (H : ∀ t : Nat → Int32, tz_ps (tz_U 4) s 16 2 4 4 a7 t → ∃ k, wX_synthesise_52 post (nI s) k 0 fb fp a1 a2 a3 a4 a5 a6 t a8 a9 a10 a11 a12) : ∃ k, wX_synthesise_27 post (nI s) k 0 fb fp a1 a2 a3 a4 a5 a6 a7 a8 a9 a10 a11 a12 := by
  refine pk_loop (σ := Nat → Int32) (fun k i t => wX_synthesise_27 post (nI s) k (nI i) fb fp a1 a2 a3 a4 a5 a6 t a8 a9 a10 a11 a12) (fun i t => tz_pc (tz_U 4) s 16 2 4 4 i a7 t) 4 0 a7 (by omega) (tz_pc_0 _ _ _ _ _ _ _)
    (fun k t h => pk_le 4 4 (fun _ => H t (tz_pc_e h)) (fun z => absurd z (by omega)))
    (fun k i t hi h hw => pk_le 4 i (fun z => absurd z (by omega)) (fun _ => ?_))
  refine tz_unlift (s + i * 16) 2 4 (by omega) (by omega) (by omega) (by omega) (fun j hj => by omega) (fun t' h' => ?_) (by rw [show (16 : Int32) = nI 16 from rfl, pk_mul, nI_add, Nat.mul_comm])
  exact nm_r (nI_1 i) (hw _ (tz_pc_s (tz_cg_U (by decide)) tz_inj3 hi h h'))
theorem tz_synthesise_2 {post : St2 → Prop} {s : Nat} (hs : s + 64 ≤ 256) (H : ∀ t : Nat → Int32, tz_ps (tz_U 4) s 2 16 4 4 a7 t → ∃ k, wX_synthesise_27 post (nI s) k 0 fb fp a1 a2 a3 a4 a5 a6 t a8 a9 a10 a11 a12) : ∃ k, wX_synthesise_2 post (nI s) k 0 fb fp a1 a2 a3 a4 a5 a6 a7 a8 a9 a10 a11 a12 := by
  refine pk_loop (σ := Nat → Int32) (fun k i t => wX_synthesise_2 post (nI s) k (nI i) fb fp a1 a2 a3 a4 a5 a6 t a8 a9 a10 a11 a12) (fun i t => tz_pc (tz_U 4) s 2 16 4 4 i a7 t) 4 0 a7 (by omega) (tz_pc_0 _ _ _ _ _ _ _)
    (fun k t h => pk_le 4 4 (fun _ => H t (tz_pc_e h)) (fun z => absurd z (by omega)))
    (fun k i t hi h hw => pk_le 4 i (fun z => absurd z (by omega)) (fun _ => ?_))
  refine tz_unlift (s + i * 2) 16 4 (by omega) (by omega) (by omega) (by omega) (fun j hj => by omega) (fun t' h' => ?_) (by rw [show (2 : Int32) = nI 2 from rfl, pk_mul, nI_add, Nat.mul_comm])
  exact nm_r (nI_1 i) (hw _ (tz_pc_s (tz_cg_U (by decide)) tz_inj4 hi h h'))
theorem tz_synthesise {post : St2 → Prop} (s : Nat) {p0 : Int32} (hs : s + 64 ≤ 256) (H : ∀ t : Nat → Int32, tz_sy s a7 t → post (fb, fp, a1, a2, a3, a4, a5, a6, t, a8, a9, a10, a11, a12)) (e0 : p0 = nI s) : wpX_synthesise post (fb, fp, a1, a2, a3, a4, a5, a6, a7, a8, a9, a10, a11, a12) p0 := by
  subst e0
  unfold wpX_synthesise
  dsimp only
  exact tz_synthesise_2 hs (fun b h1 => tz_synthesise_27 hs (fun c h2 => tz_synthesise_52 hs (fun d h3 => tz_synthesise_77 hs (fun t h4 => H t ⟨b, c, d, h1, h2, h3, h4⟩))))
end
end
section
/-! the writer's and the reader's stream -/
def tz_wr (bs : List Bool) (pl : Int32) (s : Nat → Int32) : Prop := pl = nI bs.length ∧ tz_ws bs s
def tz_rd (bs : List Bool) (pl : Int32) (s : Nat → Int32) : Prop := ∃ p : Nat, pl = nI p ∧ tz_rs bs p s
section
variable {a1 a2 a3 a4 a5 a6 a7 a8 a9 a10 a11 a12 : Nat → Int32}
theorem tz_write4 {post : St2 → Prop} {v : Int32} : ∀ (c : Nat) (bs : List Bool) (a5 : Nat → Int32), c ≤ 31 → bs.length + c ≤ 5120 → tz_ws bs a5 → (∀ (pl : Int32) (t : Nat → Int32), tz_wr (bs ++ tz_wb v c) pl t → post (nI 160, pl, a1, a2, a3, a4, t, a6, a7, a8, a9, a10, a11, a12)) → wX_write_4 post v (nI 160) (c + 1) (nI c - 1) (nI bs.length) a1 a2 a3 a4 a5 a6 a7 a8 a9 a10 a11 a12
  | 0, bs, a5, _, hl, h, H => br_t (by decide) (H (nI bs.length) a5 ⟨by rw [List.length_append]; rfl, by rw [show tz_wb v 0 = [] from rfl, List.append_nil]; exact h⟩)
  | c + 1, bs, a5, hc, hl, h, H => by
    rw [nI_pred]
    have ep : nI bs.length >>> ((5 : Int32) &&& 31) = nI (bs.length / 32) := pk_shrN (by omega) _ 5 (by decide +kernel)
    have ea : nI bs.length &&& 31 = nI (bs.length % 32) := pk_andN (by omega) 5 (by decide +kernel)
    have ei : nI 160 + nI (bs.length / 32) = nI (160 + bs.length / 32) := nI_add _ _
    refine br_f (nI_pos (by omega)) (nm_r ep (pk_le 160 (bs.length / 32) (fun z => absurd z (by omega)) (fun _ => ?_)))
    rw [ei, nI_clamp (by omega), tz_shr1 v c (by omega), ea]
    refine ⟨vp_in_nI (by omega) (by omega), vp_in_nI (by omega) (by omega), nm_e ?_⟩
    refine nm_r (e' := nI (bs ++ [tz_bt v c]).length) (by rw [nI_1, List.length_append]; rfl) (nm_r (e' := nI c - 1) (by rw [Int32.sub_eq_add_neg]) ?_)
    refine tz_write4 c (bs ++ [tz_bt v c]) _ (by omega) (by rw [List.length_append, List.length_singleton]; omega) (tz_ws_w (tz_bt v c) h rfl (by omega)) (fun pl t ht => H pl t ?_)
    rw [List.append_assoc] at ht
    exact ht
theorem tz_write {post : St2 → Prop} (c : Nat) {bs : List Bool} {v p1 pl : Int32} (h : tz_wr bs pl a5) (hc : c ≤ 31) (hl : bs.length + c ≤ 5120) (H : ∀ (pl : Int32) (t : Nat → Int32), tz_wr (bs ++ tz_wb v c) pl t → post (nI 160, pl, a1, a2, a3, a4, t, a6, a7, a8, a9, a10, a11, a12)) (e : p1 = nI c := by rfl) : wpX_write post (nI 160, pl, a1, a2, a3, a4, a5, a6, a7, a8, a9, a10, a11, a12) v p1 := by
  obtain ⟨e2, h2⟩ := h
  subst e e2
  unfold wpX_write
  dsimp only
  exact nm_e ⟨c + 1, tz_write4 c bs a5 hc hl h2 H⟩
theorem tz_lread {post : Int32 → St2 → Prop} (c : Nat) (hc : c ≤ 31) : ∀ (xs rest : List Bool) (acc i p : Nat), i + xs.length = c → tz_rs (xs ++ rest) p a5 → (∀ (pl : Int32), tz_rd rest pl a5 → post (nI (tz_val acc xs)) (nI 160, pl, a1, a2, a3, a4, a5, a6, a7, a8, a9, a10, a11, a12)) → wX_read_4 post (nI c) (nI 160) a1 a2 a3 a4 a5 a6 a7 a8 a9 a10 a11 a12 (xs.length + 1) (nI acc) (nI i) (nI p)
  | [], rest, acc, i, p, hi, h, H => pk_le c i (fun _ => H _ ⟨p, rfl, h⟩) (fun z => absurd z (by have hi' : i + 0 = c := hi; omega)) rfl rfl (by omega) (by have hi' : i + 0 = c := hi; omega)
  | b :: xs, rest, acc, i, p, hi, h, H => by
    rw [List.length_cons] at hi
    obtain ⟨hp, hb, h'⟩ := tz_rs_c h
    have ep : nI p >>> ((5 : Int32) &&& 31) = nI (p / 32) := pk_shrN (by omega) _ 5 (by decide +kernel)
    have ea : nI p &&& 31 = nI (p % 32) := pk_andN (by omega) 5 (by decide +kernel)
    have ei : nI 160 + nI (p / 32) = nI (160 + p / 32) := nI_add _ _
    refine pk_le c i (fun z => absurd z (by omega)) (fun _ => nm_r ep (pk_le 160 (p / 32) (fun z => absurd z (by omega)) (fun _ => ?_)))
    rw [ei, nI_clamp (by omega), ea, tz_ushr1 _ _ (by omega)]
    refine ⟨vp_in_nI (by omega) (by omega), ?_⟩
    have hb' : tz_bt (a5 (160 + p / 32)) (p % 32) = b := hb
    rw [hb', tz_bI_nat]
    exact nm_r (e' := nI (2 * acc + b.toNat)) (by rw [show (2 : Int32) = nI 2 from rfl, pk_mul, nI_add]) (nm_r (nI_1 p) (nm_r (nI_1 i) (tz_lread c hc xs rest _ _ _ (by omega) h' H)))
theorem tz_read {post : Int32 → St2 → Prop} (c : Nat) (xs rest : List Bool) {p0 pl : Int32} (h : tz_rd (xs ++ rest) pl a5) (hx : xs.length = c) (hc : c ≤ 31) (H : ∀ (pl : Int32), tz_rd rest pl a5 → post (nI (tz_val 0 xs)) (nI 160, pl, a1, a2, a3, a4, a5, a6, a7, a8, a9, a10, a11, a12)) (e : p0 = nI c := by rfl) : wpX_read post (nI 160, pl, a1, a2, a3, a4, a5, a6, a7, a8, a9, a10, a11, a12) p0 := by
  obtain ⟨p, e2, h2⟩ := h
  subst e e2
  unfold wpX_read
  dsimp only
  exact ⟨xs.length + 1, tz_lread c hc xs rest 0 0 p (by omega) h2 H⟩
/-- one bit -/
theorem tz_read1 {post : Int32 → St2 → Prop} (b : Bool) (rest : List Bool) {pl : Int32} (h : tz_rd (b :: rest) pl a5) (H : ∀ (pl : Int32), tz_rd rest pl a5 → post (tz_bI b) (nI 160, pl, a1, a2, a3, a4, a5, a6, a7, a8, a9, a10, a11, a12)) : wpX_read post (nI 160, pl, a1, a2, a3, a4, a5, a6, a7, a8, a9, a10, a11, a12) 1 :=
  tz_read 1 [b] rest h rfl (by omega) (fun pl h' => by
    rw [show tz_val 0 [b] = b.toNat from (Nat.zero_add _), ← tz_bI_nat]
    exact H pl h')
theorem tz_lread_2 {post : Int32 → St2 → Prop} (c : Nat) (hc : c ≤ 31) : ∀ (xs rest : List Bool) (acc i p : Nat), i + xs.length = c → tz_rs (xs ++ rest) p a5 → (∀ (pl : Int32), tz_rd rest pl a5 → post (nI (tz_val acc xs)) (nI 160, pl, a1, a2, a3, a4, a5, a6, a7, a8, a9, a10, a11, a12)) → wX_read_2_4 post (nI c) (nI 160) a1 a2 a3 a4 a5 a6 a7 a8 a9 a10 a11 a12 (xs.length + 1) (nI acc) (nI i) (nI p)
  | [], rest, acc, i, p, hi, h, H => pk_le c i (fun _ => H _ ⟨p, rfl, h⟩) (fun z => absurd z (by have hi' : i + 0 = c := hi; omega)) rfl rfl (by omega) (by have hi' : i + 0 = c := hi; omega)
  | b :: xs, rest, acc, i, p, hi, h, H => by
    rw [List.length_cons] at hi
    obtain ⟨hp, hb, h'⟩ := tz_rs_c h
    have ep : nI p >>> ((5 : Int32) &&& 31) = nI (p / 32) := pk_shrN (by omega) _ 5 (by decide +kernel)
    have ea : nI p &&& 31 = nI (p % 32) := pk_andN (by omega) 5 (by decide +kernel)
    have ei : nI 160 + nI (p / 32) = nI (160 + p / 32) := nI_add _ _
    refine pk_le c i (fun z => absurd z (by omega)) (fun _ => nm_r ep (pk_le 160 (p / 32) (fun z => absurd z (by omega)) (fun _ => ?_)))
    rw [ei, nI_clamp (by omega), ea, tz_ushr1 _ _ (by omega)]
    refine ⟨vp_in_nI (by omega) (by omega), ?_⟩
    have hb' : tz_bt (a5 (160 + p / 32)) (p % 32) = b := hb
    rw [hb', tz_bI_nat]
    exact nm_r (e' := nI (2 * acc + b.toNat)) (by rw [show (2 : Int32) = nI 2 from rfl, pk_mul, nI_add]) (nm_r (nI_1 p) (nm_r (nI_1 i) (tz_lread_2 c hc xs rest _ _ _ (by omega) h' H)))
theorem tz_read_2 {post : Int32 → St2 → Prop} (c : Nat) (xs rest : List Bool) {p0 pl : Int32} (h : tz_rd (xs ++ rest) pl a5) (hx : xs.length = c) (hc : c ≤ 31) (H : ∀ (pl : Int32), tz_rd rest pl a5 → post (nI (tz_val 0 xs)) (nI 160, pl, a1, a2, a3, a4, a5, a6, a7, a8, a9, a10, a11, a12)) (e : p0 = nI c := by rfl) : wpX_read_2 post (nI 160, pl, a1, a2, a3, a4, a5, a6, a7, a8, a9, a10, a11, a12) p0 := by
  obtain ⟨p, e2, h2⟩ := h
  subst e e2
  unfold wpX_read_2
  dsimp only
  exact ⟨xs.length + 1, tz_lread_2 c hc xs rest 0 0 p (by omega) h2 H⟩
/-- one bit -/
theorem tz_read_21 {post : Int32 → St2 → Prop} (b : Bool) (rest : List Bool) {pl : Int32} (h : tz_rd (b :: rest) pl a5) (H : ∀ (pl : Int32), tz_rd rest pl a5 → post (tz_bI b) (nI 160, pl, a1, a2, a3, a4, a5, a6, a7, a8, a9, a10, a11, a12)) : wpX_read_2 post (nI 160, pl, a1, a2, a3, a4, a5, a6, a7, a8, a9, a10, a11, a12) 1 :=
  tz_read_2 1 [b] rest h rfl (by omega) (fun pl h' => by
    rw [show tz_val 0 [b] = b.toNat from (Nat.zero_add _), ← tz_bI_nat]
    exact H pl h')
theorem tz_lread_3 {post : Int32 → St2 → Prop} (c : Nat) (hc : c ≤ 31) : ∀ (xs rest : List Bool) (acc i p : Nat), i + xs.length = c → tz_rs (xs ++ rest) p a5 → (∀ (pl : Int32), tz_rd rest pl a5 → post (nI (tz_val acc xs)) (nI 160, pl, a1, a2, a3, a4, a5, a6, a7, a8, a9, a10, a11, a12)) → wX_read_3_4 post (nI c) (nI 160) a1 a2 a3 a4 a5 a6 a7 a8 a9 a10 a11 a12 (xs.length + 1) (nI acc) (nI i) (nI p)
  | [], rest, acc, i, p, hi, h, H => pk_le c i (fun _ => H _ ⟨p, rfl, h⟩) (fun z => absurd z (by have hi' : i + 0 = c := hi; omega)) rfl rfl (by omega) (by have hi' : i + 0 = c := hi; omega)
  | b :: xs, rest, acc, i, p, hi, h, H => by
    rw [List.length_cons] at hi
    obtain ⟨hp, hb, h'⟩ := tz_rs_c h
    have ep : nI p >>> ((5 : Int32) &&& 31) = nI (p / 32) := pk_shrN (by omega) _ 5 (by decide +kernel)
    have ea : nI p &&& 31 = nI (p % 32) := pk_andN (by omega) 5 (by decide +kernel)
    have ei : nI 160 + nI (p / 32) = nI (160 + p / 32) := nI_add _ _
    refine pk_le c i (fun z => absurd z (by omega)) (fun _ => nm_r ep (pk_le 160 (p / 32) (fun z => absurd z (by omega)) (fun _ => ?_)))
    rw [ei, nI_clamp (by omega), ea, tz_ushr1 _ _ (by omega)]
    refine ⟨vp_in_nI (by omega) (by omega), ?_⟩
    have hb' : tz_bt (a5 (160 + p / 32)) (p % 32) = b := hb
    rw [hb', tz_bI_nat]
    exact nm_r (e' := nI (2 * acc + b.toNat)) (by rw [show (2 : Int32) = nI 2 from rfl, pk_mul, nI_add]) (nm_r (nI_1 p) (nm_r (nI_1 i) (tz_lread_3 c hc xs rest _ _ _ (by omega) h' H)))
theorem tz_read_3 {post : Int32 → St2 → Prop} (c : Nat) (xs rest : List Bool) {p0 pl : Int32} (h : tz_rd (xs ++ rest) pl a5) (hx : xs.length = c) (hc : c ≤ 31) (H : ∀ (pl : Int32), tz_rd rest pl a5 → post (nI (tz_val 0 xs)) (nI 160, pl, a1, a2, a3, a4, a5, a6, a7, a8, a9, a10, a11, a12)) (e : p0 = nI c := by rfl) : wpX_read_3 post (nI 160, pl, a1, a2, a3, a4, a5, a6, a7, a8, a9, a10, a11, a12) p0 := by
  obtain ⟨p, e2, h2⟩ := h
  subst e e2
  unfold wpX_read_3
  dsimp only
  exact ⟨xs.length + 1, tz_lread_3 c hc xs rest 0 0 p (by omega) h2 H⟩
/-- one bit -/
theorem tz_read_31 {post : Int32 → St2 → Prop} (b : Bool) (rest : List Bool) {pl : Int32} (h : tz_rd (b :: rest) pl a5) (H : ∀ (pl : Int32), tz_rd rest pl a5 → post (tz_bI b) (nI 160, pl, a1, a2, a3, a4, a5, a6, a7, a8, a9, a10, a11, a12)) : wpX_read_3 post (nI 160, pl, a1, a2, a3, a4, a5, a6, a7, a8, a9, a10, a11, a12) 1 :=
  tz_read_3 1 [b] rest h rfl (by omega) (fun pl h' => by
    rw [show tz_val 0 [b] = b.toNat from (Nat.zero_add _), ← tz_bI_nat]
    exact H pl h')
theorem tz_lread_4 {post : Int32 → St2 → Prop} (c : Nat) (hc : c ≤ 31) : ∀ (xs rest : List Bool) (acc i p : Nat), i + xs.length = c → tz_rs (xs ++ rest) p a5 → (∀ (pl : Int32), tz_rd rest pl a5 → post (nI (tz_val acc xs)) (nI 160, pl, a1, a2, a3, a4, a5, a6, a7, a8, a9, a10, a11, a12)) → wX_read_4_4 post (nI c) (nI 160) a1 a2 a3 a4 a5 a6 a7 a8 a9 a10 a11 a12 (xs.length + 1) (nI acc) (nI i) (nI p)
  | [], rest, acc, i, p, hi, h, H => pk_le c i (fun _ => H _ ⟨p, rfl, h⟩) (fun z => absurd z (by have hi' : i + 0 = c := hi; omega)) rfl rfl (by omega) (by have hi' : i + 0 = c := hi; omega)
  | b :: xs, rest, acc, i, p, hi, h, H => by
    rw [List.length_cons] at hi
    obtain ⟨hp, hb, h'⟩ := tz_rs_c h
    have ep : nI p >>> ((5 : Int32) &&& 31) = nI (p / 32) := pk_shrN (by omega) _ 5 (by decide +kernel)
    have ea : nI p &&& 31 = nI (p % 32) := pk_andN (by omega) 5 (by decide +kernel)
    have ei : nI 160 + nI (p / 32) = nI (160 + p / 32) := nI_add _ _
    refine pk_le c i (fun z => absurd z (by omega)) (fun _ => nm_r ep (pk_le 160 (p / 32) (fun z => absurd z (by omega)) (fun _ => ?_)))
    rw [ei, nI_clamp (by omega), ea, tz_ushr1 _ _ (by omega)]
    refine ⟨vp_in_nI (by omega) (by omega), ?_⟩
    have hb' : tz_bt (a5 (160 + p / 32)) (p % 32) = b := hb
    rw [hb', tz_bI_nat]
    exact nm_r (e' := nI (2 * acc + b.toNat)) (by rw [show (2 : Int32) = nI 2 from rfl, pk_mul, nI_add]) (nm_r (nI_1 p) (nm_r (nI_1 i) (tz_lread_4 c hc xs rest _ _ _ (by omega) h' H)))
theorem tz_read_4 {post : Int32 → St2 → Prop} (c : Nat) (xs rest : List Bool) {p0 pl : Int32} (h : tz_rd (xs ++ rest) pl a5) (hx : xs.length = c) (hc : c ≤ 31) (H : ∀ (pl : Int32), tz_rd rest pl a5 → post (nI (tz_val 0 xs)) (nI 160, pl, a1, a2, a3, a4, a5, a6, a7, a8, a9, a10, a11, a12)) (e : p0 = nI c := by rfl) : wpX_read_4 post (nI 160, pl, a1, a2, a3, a4, a5, a6, a7, a8, a9, a10, a11, a12) p0 := by
  obtain ⟨p, e2, h2⟩ := h
  subst e e2
  unfold wpX_read_4
  dsimp only
  exact ⟨xs.length + 1, tz_lread_4 c hc xs rest 0 0 p (by omega) h2 H⟩
/-- one bit -/
theorem tz_read_41 {post : Int32 → St2 → Prop} (b : Bool) (rest : List Bool) {pl : Int32} (h : tz_rd (b :: rest) pl a5) (H : ∀ (pl : Int32), tz_rd rest pl a5 → post (tz_bI b) (nI 160, pl, a1, a2, a3, a4, a5, a6, a7, a8, a9, a10, a11, a12)) : wpX_read_4 post (nI 160, pl, a1, a2, a3, a4, a5, a6, a7, a8, a9, a10, a11, a12) 1 :=
  tz_read_4 1 [b] rest h rfl (by omega) (fun pl h' => by
    rw [show tz_val 0 [b] = b.toNat from (Nat.zero_add _), ← tz_bI_nat]
    exact H pl h')
end
end
section
/-! what a cell writes -/
theorem tz_ec_a {z : Nat → Nat} {ng : Nat → Bool} {p j : Nat} (h : tz_sn (z j) (p + 1) = true ∨ (z j).testBit p = false) : tz_ec z ng p j = [(z j).testBit p] := by
  unfold tz_ec
  rcases h with h | h
  · rw [h]; simp
  · rw [h]; simp
theorem tz_ec_b {z : Nat → Nat} {ng : Nat → Bool} {p j : Nat} (h : tz_sn (z j) (p + 1) = false) (h2 : (z j).testBit p = true) : tz_ec z ng p j = [(z j).testBit p, ng j] := by
  unfold tz_ec
  rw [h, h2]; simp
theorem tz_bI_ne (b : Bool) (h : ¬ tz_bI b = 0) : b = true := by
  cases b
  · exact absurd rfl h
  · rfl
theorem tz_bI_eq0 {b : Bool} (h : b = false) : tz_bI b = 0 := by rw [h]; rfl
theorem tz_bI_ne0 {b : Bool} (h : b = true) : ¬ tz_bI b = 0 := by rw [h]; decide
theorem tz_bI_eq1 {b : Bool} (h : b = true) : tz_bI b = 1 := by rw [h]; rfl
theorem tz_bI_ne1 {b : Bool} (h : b = false) : ¬ tz_bI b = 1 := by rw [h]; decide
theorem tz_bI_or (a b : Bool) : tz_bI a ||| tz_bI b = tz_bI (a || b) := by cases a <;> cases b <;> decide
theorem tz_gbit (z p : Nat) (hp : p < 32) : (nI z >>> (nI p &&& 31)) &&& 1 = tz_bI (z.testBit p) := by rw [tz_shr1 _ p hp, tz_btN hp]
section
variable {a1 a2 a3 a4 a5 a6 a7 a8 a9 a10 a11 a12 : Nat → Int32} {z : Nat → Nat} {ng : Nat → Bool}
theorem tz_wg82 {post : St2 → Prop} {g p : Nat} (hg : g < 64) (hp : p < 20) (h9 : ∀ k, 4 * g ≤ k → k < 4 * g + 4 → a9 k = nI (z k)) (h10 : ∀ k, 4 * g ≤ k → k < 4 * g + 4 → a10 k = tz_bI (ng k)) : ∀ (n j : Nat) (bs : List Bool) (pl : Int32) (a5 a11 : Nat → Int32), j + n = 4 * g + 4 → 4 * g ≤ j → tz_wr bs pl a5 → bs.length + (tz_es z ng p j n).length ≤ 5120 →
    (∀ k, 4 * g ≤ k → k < 4 * g + 4 → a11 k = tz_bI (tz_sn (z k) (if k < j then p else p + 1))) →
    (∀ (pl : Int32) (t5 t11 : Nat → Int32), tz_wr (bs ++ tz_es z ng p j n) pl t5 → (∀ k, 4 * g ≤ k → k < 4 * g + 4 → t11 k = tz_bI (tz_sn (z k) p)) → (∀ k, k < 4 * g ∨ 4 * g + 4 ≤ k → t11 k = a11 k) → post (nI 160, pl, a1, a2, a3, a4, t5, a6, a7, a8, a9, a10, t11, a12)) →
    wX_writeGroup_82 post (nI g) (nI p) (n + 1) (nI j) (nI 160) pl a1 a2 a3 a4 a5 a6 a7 a8 a9 a10 a11 a12
  | 0, j, bs, pl, a5, a11, hj, hj2, h, hl, h11, H => by
    refine pk_le (4 * g + 4) j (fun _ => H pl a5 a11 ?_ (fun k k1 k2 => ?_) (fun _ _ => rfl)) (fun q => absurd q (by omega)) (by rw [show (4 : Int32) = nI 4 from rfl, pk_mul, nI_add])
    · rw [show tz_es z ng p j 0 = [] from rfl, List.append_nil]
      exact h
    · rw [h11 k k1 k2, if_pos (by omega)]
  | n + 1, j, bs, pl, a5, a11, hj, hj2, h, hl, h11, H => by
    have hl' : bs.length + ((tz_ec z ng p j).length + (tz_es z ng p (j + 1) n).length) ≤ 5120 := by
      rw [← List.length_append]
      exact hl
    have key : ∀ (pl : Int32) (t5 t11 : Nat → Int32), tz_wr (bs ++ tz_ec z ng p j) pl t5 → t11 j = tz_bI (tz_sn (z j) p) → (∀ k, k ≠ j → t11 k = a11 k) → wX_writeGroup_82 post (nI g) (nI p) (n + 1) (nI (j + 1)) (nI 160) pl a1 a2 a3 a4 t5 a6 a7 a8 a9 a10 t11 a12 := by
      intro pl t5 t11 hw hj11 hk11
      refine tz_wg82 hg hp h9 h10 n (j + 1) (bs ++ tz_ec z ng p j) pl t5 t11 (by omega) (by omega) hw (by rw [List.length_append]; omega) (fun k k1 k2 => ?_) (fun pl2 u5 u11 g1 g2 g3 => H pl2 u5 u11 ?_ g2 (fun k hk => ?_))
      · by_cases e : k = j
        · rw [e, hj11, if_pos (by omega)]
        · rw [hk11 k e, h11 k k1 k2]
          by_cases q : k < j
          · rw [if_pos q, if_pos (by omega)]
          · rw [if_neg q, if_neg (by omega)]
      · rw [List.append_assoc] at g1
        exact g1
      · rw [g3 k hk, hk11 k (by omega)]
    have ec0 : 1 ≤ (tz_ec z ng p j).length := Nat.succ_le_succ (Nat.zero_le _)
    have ej : a11 j = tz_bI (tz_sn (z j) (p + 1)) := by rw [h11 j hj2 (by omega), if_neg (by omega)]
    refine pk_le (4 * g + 4) j (fun q => absurd q (by omega)) (fun _ => ⟨vp_in_nI (by omega) (by omega), nm_r (e' := tz_bI ((z j).testBit p)) (by rw [nI_clamp (by omega), h9 j hj2 (by omega), tz_gbit _ _ (by omega)]) (tz_write 1 h (by omega) (by omega) (fun pl t5 h5 => ?_))⟩) (by rw [show (4 : Int32) = nI 4 from rfl, pk_mul, nI_add])
    dsimp only
    rw [tz_wb1] at h5
    rw [nI_clamp (by omega), ej, h10 j hj2 (by omega)]
    refine ⟨vp_in_nI (by omega) (by omega), br_c (fun c1 => ?_) (fun c1 => ?_)⟩
    · have s1 : tz_sn (z j) (p + 1) = false := by
        cases q : tz_sn (z j) (p + 1)
        · rfl
        · rw [q] at c1; exact absurd c1 (by decide)
      have s0 := tz_sn_step (z j) p
      rw [s1, Bool.false_or] at s0
      refine br_c (fun c2 => ⟨vp_in_nI (by omega) (by omega), nm_e ⟨vp_in_nI (by omega) (by omega), ?_⟩⟩) (fun c2 => nm_r (nI_1 j) ?_)
      · have b1 : (z j).testBit p = true := tz_bI_ne _ (by rw [c2]; decide)
        have e2 := tz_ec_b (ng := ng) s1 b1
        have w : wX_writeGroup_147 post (wX_writeGroup_82 post (nI g) (nI p) (n + 1)) (nI g) (nI p) (nI j) (tz_bI (ng j)) (nI 160) pl a1 a2 a3 a4 t5 a6 a7 a8 a9 a10 (upd a11 j 1) a12 := by
          rw [e2] at hl'
          have hl2 : bs.length + (2 + (tz_es z ng p (j + 1) n).length) ≤ 5120 := hl'
          refine tz_write 1 h5 (by omega) (by rw [List.length_append, List.length_singleton]; omega) (fun pl u5 h6 => nm_r (nI_1 j) (key pl u5 _ ?_ ?_ (fun k hk => pk_un hk)))
          · rw [tz_wb1, List.append_assoc] at h6
            rw [e2]
            exact h6
          · rw [pk_us, s0, b1]; rfl
        exact br_c (fun c3 => by rw [c3] at w; exact w) (fun c3 => by rw [tz_bI_eq1 (tz_bI_ne _ c3)] at w; exact w)
      · have b1 : (z j).testBit p = false := by
          cases q : (z j).testBit p
          · rfl
          · rw [q] at c2; exact absurd rfl c2
        refine key pl t5 a11 ?_ ?_ (fun _ _ => rfl)
        · rw [tz_ec_a (Or.inr b1)]
          exact h5
        · rw [ej, s1, s0, b1]
    · have s1 := tz_bI_ne _ c1
      refine nm_r (nI_1 j) (key pl t5 a11 ?_ ?_ (fun _ _ => rfl))
      · rw [tz_ec_a (Or.inl s1)]
        exact h5
      · rw [ej, s1, tz_sn_up s1]
theorem tz_wg68 {post : St2 → Prop} {g p : Nat} {bs : List Bool} {pl : Int32} (hg : g < 64) (hp : p < 20) (h9 : ∀ k, 4 * g ≤ k → k < 4 * g + 4 → a9 k = nI (z k)) (h10 : ∀ k, 4 * g ≤ k → k < 4 * g + 4 → a10 k = tz_bI (ng k))
    (h : tz_wr bs pl a5) (hl : bs.length + (if tz_gs z g p then tz_es z ng p (4 * g) 4 else []).length ≤ 5120) (h11 : ∀ k, 4 * g ≤ k → k < 4 * g + 4 → a11 k = tz_bI (tz_sn (z k) (p + 1))) (h12 : a12 g = tz_bI (tz_gs z g p))
    (H : ∀ (pl : Int32) (t5 t11 : Nat → Int32), tz_wr (bs ++ (if tz_gs z g p then tz_es z ng p (4 * g) 4 else [])) pl t5 → (∀ k, 4 * g ≤ k → k < 4 * g + 4 → t11 k = tz_bI (tz_sn (z k) p)) → (∀ k, k < 4 * g ∨ 4 * g + 4 ≤ k → t11 k = a11 k) → post (nI 160, pl, a1, a2, a3, a4, t5, a6, a7, a8, a9, a10, t11, a12)) :
    wX_writeGroup_68 post (nI g) (nI p) (nI 160) pl a1 a2 a3 a4 a5 a6 a7 a8 a9 a10 a11 a12 := by
  unfold wX_writeGroup_68
  rw [nI_clamp (by omega), h12]
  refine ⟨vp_in_nI (by omega) (by omega), ?_⟩
  cases q : tz_gs z g p with
  | false =>
    rw [q] at H
    refine br_t rfl (H pl a5 a11 ?_ (fun k k1 k2 => ?_) (fun _ _ => rfl))
    · rw [if_neg (by decide), List.append_nil]
      exact h
    · have s0 := tz_gs_f q k k1 k2
      have s1 := tz_sn_step (z k) p
      rw [s0] at s1
      rw [h11 k k1 k2, s0]
      cases q2 : tz_sn (z k) (p + 1)
      · rfl
      · rw [q2, Bool.true_or] at s1; exact absurd s1 (by decide)
  | true =>
    rw [q, if_pos rfl] at hl
    refine br_f (by decide) (nm_r (pk_mul 4 g) ⟨5, tz_wg82 hg hp h9 h10 4 (4 * g) bs pl a5 a11 (by omega) (by omega) h hl (fun k k1 k2 => ?_) (fun pl t5 t11 g1 g2 g3 => H pl t5 t11 ?_ g2 g3)⟩)
    · rw [h11 k k1 k2, if_neg (by omega)]
    · rw [q, if_pos rfl]
      exact g1
theorem tz_wgroup {post : St2 → Prop} {g p : Nat} {bs : List Bool} {pl : Int32} (hg : g < 64) (hp : p < 20) (h9 : ∀ k, 4 * g ≤ k → k < 4 * g + 4 → a9 k = nI (z k)) (h10 : ∀ k, 4 * g ≤ k → k < 4 * g + 4 → a10 k = tz_bI (ng k))
    (h : tz_wr bs pl a5) (hl : bs.length + (tz_eg z ng p g).length ≤ 5120) (h11 : ∀ k, 4 * g ≤ k → k < 4 * g + 4 → a11 k = tz_bI (tz_sn (z k) (p + 1))) (h12 : a12 g = tz_bI (tz_gs z g (p + 1)))
    (H : ∀ (pl : Int32) (t5 t11 t12 : Nat → Int32), tz_wr (bs ++ tz_eg z ng p g) pl t5 → (∀ k, 4 * g ≤ k → k < 4 * g + 4 → t11 k = tz_bI (tz_sn (z k) p)) → (∀ k, k < 4 * g ∨ 4 * g + 4 ≤ k → t11 k = a11 k) → t12 g = tz_bI (tz_gs z g p) → (∀ k, k ≠ g → t12 k = a12 k) → post (nI 160, pl, a1, a2, a3, a4, t5, a6, a7, a8, a9, a10, t11, t12)) :
    wpX_writeGroup post (nI 160, pl, a1, a2, a3, a4, a5, a6, a7, a8, a9, a10, a11, a12) (nI g) (nI p) := by
  unfold wpX_writeGroup
  dsimp only
  rw [nI_clamp (by omega), h12]
  refine ⟨vp_in_nI (by omega) (by omega), ?_⟩
  unfold tz_eg at hl H
  cases q : tz_gs z g (p + 1) with
  | true =>
    rw [q, if_pos rfl, List.nil_append] at hl H
    refine br_f (by decide) (tz_wg68 hg hp h9 h10 h hl h11 ?_ (fun pl t5 t11 g1 g2 g3 => H pl t5 t11 a12 g1 g2 g3 ?_ (fun _ _ => rfl)))
    · rw [h12, q, tz_gs_up q]
    · rw [h12, q, tz_gs_up q]
  | false =>
    rw [q, if_neg (by decide)] at hl H
    rw [List.length_append, List.length_singleton] at hl
    refine br_t rfl (nm_r (pk_mul 4 g) ?_)
    refine pk_loop (σ := Int32) (fun n i s => wX_writeGroup_16 post (nI g) (nI p) (nI 160) pl a1 a2 a3 a4 a5 a6 a7 a8 a9 a10 a11 a12 n s (nI i)) (fun i s => 4 * g ≤ i ∧ ∃ b : Bool, s = tz_bI b ∧ (b = true ↔ ∃ k, 4 * g ≤ k ∧ k < i ∧ 2 ^ p ≤ z k)) (4 * g + 4) (4 * g) 0 (by omega) ⟨by omega, false, rfl, ⟨fun z => absurd z (by decide), fun ⟨k, k1, k2, _⟩ => absurd k2 (by omega)⟩⟩
      (fun n s hs => pk_le (4 * g + 4) (4 * g + 4) (fun _ => ?_) (fun z => absurd z (by omega)) (by rw [show (4 : Int32) = nI 4 from rfl, pk_mul, nI_add]))
      (fun n i s hi hs hw => pk_le (4 * g + 4) i (fun z => absurd z (by omega)) (fun _ => ?_) (by rw [show (4 : Int32) = nI 4 from rfl, pk_mul, nI_add]))
    · obtain ⟨hi4, b, e, hb⟩ := hs
      have eb : b = tz_gs z g p := by
        cases q2 : tz_gs z g p with
        | true => exact hb.mpr (tz_gs_iff.mp q2)
        | false =>
          cases q3 : b
          · rfl
          · rw [tz_gs_iff.mpr (hb.mp q3)] at q2
            exact absurd q2 (by decide)
      subst e eb
      have K : ∀ (pl : Int32) (t5 : Nat → Int32), tz_wr (bs ++ tz_wb (tz_bI (tz_gs z g p)) 1) pl t5 → wX_writeGroup_67 post (nI g) (nI p) (tz_bI (tz_gs z g p)) (nI g) (nI 160) pl a1 a2 a3 a4 t5 a6 a7 a8 a9 a10 a11 a12 := by
        intro pl t5 hw
        rw [tz_wb1] at hw
        refine ⟨vp_in_nI (by omega) (by omega), nm_r (e' := upd a12 g (tz_bI (tz_gs z g p))) (by rw [nI_clamp (by omega), tz_bI_nar]) (tz_wg68 hg hp h9 h10 hw (by rw [List.length_append, List.length_singleton]; omega) h11 pk_us (fun pl u5 t11 g1 g2 g3 => H pl u5 t11 _ ?_ g2 g3 pk_us (fun k hk => pk_un hk)))⟩
        rw [List.append_assoc] at g1
        exact g1
      refine tz_write 1 h (by omega) (by omega) (fun pl t5 h5 => ?_)
      dsimp only
      have K2 := K pl t5 h5
      exact br_c (fun c => by rw [c] at K2; exact K2) (fun c => by
        rw [show tz_bI (tz_gs z g p) = 0 from by
          cases q2 : tz_gs z g p
          · rfl
          · rw [q2] at c; exact absurd rfl c] at K2
        exact K2)
    · obtain ⟨hi4, b, e, hb⟩ := hs
      have s1 := tz_gs_f q i (by omega) (by omega)
      have s0 := tz_sn_step (z i) p
      rw [s1, Bool.false_or] at s0
      refine ⟨vp_in_nI (by omega) (by omega), nm_r (e' := tz_bI (b || (z i).testBit p)) (by rw [nI_clamp (by omega), h9 i (by omega) (by omega), tz_gbit _ _ (by omega), e, tz_bI_or]) (nm_r (nI_1 i) (hw _ ⟨by omega, _, rfl, ?_⟩))⟩
      rw [Bool.or_eq_true, ← s0, hb]
      constructor
      · rintro (⟨k, k1, k2, k3⟩ | k3)
        · exact ⟨k, k1, by omega, k3⟩
        · exact ⟨i, by omega, by omega, of_decide_eq_true k3⟩
      · rintro ⟨k, k1, k2, k3⟩
        by_cases e2 : k = i
        · subst e2; exact Or.inr (decide_eq_true k3)
        · exact Or.inl ⟨k, k1, by omega, k3⟩
end
end
section
section
variable {a1 a2 a3 a4 a5 a6 a7 a8 a9 a10 a11 a12 : Nat → Int32} {z : Nat → Nat} {ng : Nat → Bool}
theorem tz_wf136 {post : St2 → Prop} {J : Int32 → Int32 → Int32 → (Nat → Int32) → (Nat → Int32) → (Nat → Int32) → (Nat → Int32) → (Nat → Int32) → (Nat → Int32) → (Nat → Int32) → (Nat → Int32) → (Nat → Int32) → (Nat → Int32) → (Nat → Int32) → (Nat → Int32) → Prop} {f p : Nat} (hf : f < 4) (hp : p < 20) (h9 : ∀ k, 64 * f ≤ k → k < 64 * f + 64 → a9 k = nI (z k)) (h10 : ∀ k, 64 * f ≤ k → k < 64 * f + 64 → a10 k = tz_bI (ng k)) : ∀ (n g : Nat) (bs : List Bool) (pl : Int32) (a5 a11 a12 : Nat → Int32), g + n = 16 * f + 16 → 16 * f ≤ g → tz_wr bs pl a5 → bs.length + (tz_et z ng p g n).length ≤ 5120 →
    (∀ k, 64 * f ≤ k → k < 64 * f + 64 → a11 k = tz_bI (tz_sn (z k) (if k < 4 * g then p else p + 1))) → (∀ k, 16 * f ≤ k → k < 16 * f + 16 → a12 k = tz_bI (tz_gs z k (if k < g then p else p + 1))) →
    (∀ (pl : Int32) (t5 t11 t12 : Nat → Int32), tz_wr (bs ++ tz_et z ng p g n) pl t5 → (∀ k, 64 * f ≤ k → k < 64 * f + 64 → t11 k = tz_bI (tz_sn (z k) p)) → (∀ k, 16 * f ≤ k → k < 16 * f + 16 → t12 k = tz_bI (tz_gs z k p)) → (∀ k, k < 64 * f ∨ 64 * f + 64 ≤ k → t11 k = a11 k) → (∀ k, k < 16 * f ∨ 16 * f + 16 ≤ k → t12 k = a12 k) → J (nI p - 1) (nI 160) pl a1 a2 a3 a4 t5 a6 a7 a8 a9 a10 t11 t12) →
    wX_writeFrame_136 post J (nI f) (nI p) (n + 1) (nI g) (nI 160) pl a1 a2 a3 a4 a5 a6 a7 a8 a9 a10 a11 a12
  | 0, g, bs, pl, a5, a11, a12, hg, hg2, h, hl, h11, h12, H => by
    refine pk_le (16 * f + 16) g (fun _ => nm_r (e' := nI p - 1) (by rw [Int32.sub_eq_add_neg]) (H pl a5 a11 a12 ?_ (fun k k1 k2 => ?_) (fun k k1 k2 => ?_) (fun _ _ => rfl) (fun _ _ => rfl))) (fun q => absurd q (by omega)) (by rw [show (16 : Int32) = nI 16 from rfl, pk_mul, nI_add])
    · rw [show tz_et z ng p g 0 = [] from rfl, List.append_nil]
      exact h
    · rw [h11 k k1 k2, if_pos (by omega)]
    · rw [h12 k k1 k2, if_pos (by omega)]
  | n + 1, g, bs, pl, a5, a11, a12, hg, hg2, h, hl, h11, h12, H => by
    have hl' : bs.length + ((tz_eg z ng p g).length + (tz_et z ng p (g + 1) n).length) ≤ 5120 := by
      rw [← List.length_append]
      exact hl
    refine pk_le (16 * f + 16) g (fun q => absurd q (by omega)) (fun _ => ?_) (by rw [show (16 : Int32) = nI 16 from rfl, pk_mul, nI_add])
    refine tz_wgroup (z := z) (ng := ng) (bs := bs) (by omega) hp (fun k k1 k2 => h9 k (by omega) (by omega)) (fun k k1 k2 => h10 k (by omega) (by omega)) h (by omega) (fun k k1 k2 => by rw [h11 k (by omega) (by omega), if_neg (by omega)]) (by rw [h12 g (by omega) (by omega), if_neg (by omega)]) (fun pl t5 t11 t12 g1 g2 g3 g4 g5 => ?_)
    refine nm_r (nI_1 g) (tz_wf136 hf hp h9 h10 n (g + 1) (bs ++ tz_eg z ng p g) pl t5 t11 t12 (by omega) (by omega) g1 (by rw [List.length_append]; omega) (fun k k1 k2 => ?_) (fun k k1 k2 => ?_) (fun pl u5 u11 u12 q1 q2 q3 q4 q5 => H pl u5 u11 u12 ?_ q2 q3 (fun k hk => ?_) (fun k hk => ?_)))
    · by_cases c : k < 4 * g
      · rw [if_pos (by omega), g3 k (by omega), h11 k k1 k2, if_pos c]
      · by_cases c2 : k < 4 * g + 4
        · rw [if_pos (by omega), g2 k (by omega) (by omega)]
        · rw [if_neg (by omega), g3 k (by omega), h11 k k1 k2, if_neg c]
    · by_cases c : k = g
      · rw [c, if_pos (by omega), g4]
      · rw [g5 k c, h12 k k1 k2]
        by_cases c2 : k < g
        · rw [if_pos c2, if_pos (by omega)]
        · rw [if_neg c2, if_neg (by omega)]
    · rw [List.append_assoc] at q1
      exact q1
    · rw [q4 k hk, g3 k (by omega)]
    · rw [q5 k hk, g5 k (by omega)]
theorem tz_wf125 {post : St2 → Prop} {f : Nat} (hf : f < 4) (h9 : ∀ k, 64 * f ≤ k → k < 64 * f + 64 → a9 k = nI (z k)) (h10 : ∀ k, 64 * f ≤ k → k < 64 * f + 64 → a10 k = tz_bI (ng k)) : ∀ (c : Nat) (bs : List Bool) (pl : Int32) (a5 a11 a12 : Nat → Int32), c < 20 → tz_wr bs pl a5 → bs.length + (tz_ef z ng (16 * f) c).length ≤ 5120 →
    (∀ k, 64 * f ≤ k → k < 64 * f + 64 → a11 k = tz_bI (tz_sn (z k) c)) → (∀ k, 16 * f ≤ k → k < 16 * f + 16 → a12 k = tz_bI (tz_gs z k c)) →
    (∀ (pl : Int32) (t5 t11 t12 : Nat → Int32), tz_wr (bs ++ tz_ef z ng (16 * f) c) pl t5 → (∀ k, k < 64 * f ∨ 64 * f + 64 ≤ k → t11 k = a11 k) → (∀ k, k < 16 * f ∨ 16 * f + 16 ≤ k → t12 k = a12 k) → post (nI 160, pl, a1, a2, a3, a4, t5, a6, a7, a8, a9, a10, t11, t12)) →
    wX_writeFrame_125 post (nI f) (c + 1) (nI c - 1) (nI 160) pl a1 a2 a3 a4 a5 a6 a7 a8 a9 a10 a11 a12
  | 0, bs, pl, a5, a11, a12, hc, h, hl, h11, h12, H => br_t (by decide) (H pl a5 a11 a12 (by rw [show tz_ef z ng (16 * f) 0 = [] from rfl, List.append_nil]; exact h) (fun _ _ => rfl) (fun _ _ => rfl))
  | c + 1, bs, pl, a5, a11, a12, hc, h, hl, h11, h12, H => by
    have hl' : bs.length + ((tz_et z ng c (16 * f) 16).length + (tz_ef z ng (16 * f) c).length) ≤ 5120 := by
      rw [← List.length_append]
      exact hl
    rw [nI_pred]
    refine br_f (nI_pos (by omega)) (nm_r (pk_mul 16 f) ⟨17, ?_⟩)
    refine tz_wf136 hf (by omega) h9 h10 16 (16 * f) bs pl a5 a11 a12 (by omega) (by omega) h (by omega) (fun k k1 k2 => by rw [h11 k k1 k2, if_neg (by omega)]) (fun k k1 k2 => by rw [h12 k k1 k2, if_neg (by omega)]) (fun pl t5 t11 t12 g1 g2 g3 g4 g5 => ?_)
    refine tz_wf125 hf h9 h10 c (bs ++ tz_et z ng c (16 * f) 16) pl t5 t11 t12 (by omega) g1 (by rw [List.length_append]; omega) g2 g3 (fun pl u5 u11 u12 q1 q4 q5 => H pl u5 u11 u12 ?_ (fun k hk => ?_) (fun k hk => ?_))
    · rw [List.append_assoc] at q1
      exact q1
    · rw [q4 k hk, g4 k hk]
    · rw [q5 k hk, g5 k hk]
theorem tz_gs_0 {z : Nat → Nat} {g p : Nat} (h : ∀ k, 4 * g ≤ k → k < 4 * g + 4 → z k < 2 ^ p) : tz_gs z g p = false := by
  cases q : tz_gs z g p
  · rfl
  · obtain ⟨j, h1, h2, h3⟩ := tz_gs_iff.mp q
    have := h j h1 h2
    omega
theorem tz_wf89 {post : St2 → Prop} {f X : Nat} {bs : List Bool} {pl : Int32} (hf : f < 4) (hX : X < 2 ^ 13) (hz : ∀ k, 64 * f ≤ k → k < 64 * f + 64 → z k ≤ X) (h9 : ∀ k, 64 * f ≤ k → k < 64 * f + 64 → a9 k = nI (z k)) (h10 : ∀ k, 64 * f ≤ k → k < 64 * f + 64 → a10 k = tz_bI (ng k))
    (h : tz_wr bs pl a5) (hl : bs.length + 1108 ≤ 5120) (h11 : ∀ k, 64 * f ≤ k → k < 64 * f + 64 → a11 k = 0) (h12 : ∀ k, 16 * f ≤ k → k < 16 * f + 16 → a12 k = 0)
    (H : ∀ (P : Nat) (pl : Int32) (t5 t11 t12 : Nat → Int32), P ≤ 13 → (∀ k, 64 * f ≤ k → k < 64 * f + 64 → z k < 2 ^ P) → tz_wr (bs ++ tz_eF z ng f P) pl t5 → (∀ k, k < 64 * f ∨ 64 * f + 64 ≤ k → t11 k = a11 k) → (∀ k, k < 16 * f ∨ 16 * f + 16 ≤ k → t12 k = a12 k) → post (nI 160, pl, a1, a2, a3, a4, t5, a6, a7, a8, a9, a10, t11, t12)) :
    ∃ n, wX_writeFrame_89 post (nI f) (nI X) (nI 160) pl a1 a2 a3 a4 a5 a6 a7 a8 a9 a10 a11 a12 n 0 0 := by
  refine pk_loop (σ := Int32) (fun n i s => wX_writeFrame_89 post (nI f) (nI X) (nI 160) pl a1 a2 a3 a4 a5 a6 a7 a8 a9 a10 a11 a12 n s (nI i)) (fun i s => ∃ P : Nat, s = nI P ∧ P ≤ 13 ∧ P ≤ i ∧ (X < 2 ^ P ∨ P = i)) 15 0 0 (by omega) ⟨0, rfl, by omega, by omega, Or.inr rfl⟩
    (fun n s hs => pk_le 15 15 (fun _ => ?_) (fun q => absurd q (by omega)))
    (fun n i s hi hs hw => pk_le 15 i (fun q => absurd q (by omega)) (fun _ => ?_))
  · obtain ⟨P, e, hP, hP2, hP3⟩ := hs
    subst e
    have hXP : X < 2 ^ P := by
      rcases hP3 with c | c
      · exact c
      · omega
    have hzP : ∀ k, 64 * f ≤ k → k < 64 * f + 64 → z k < 2 ^ P := fun k k1 k2 => Nat.lt_of_le_of_lt (hz k k1 k2) hXP
    have hle := tz_eF_len z ng f P hP
    unfold tz_eF at hle
    rw [List.length_append, tz_wb_len] at hle
    refine tz_write 4 h (by omega) (by omega) (fun pl t5 h5 => nm_e ⟨P + 1, ?_⟩)
    refine tz_wf125 hf h9 h10 P _ pl t5 a11 a12 (by omega) h5 (by rw [List.length_append, tz_wb_len]; omega) (fun k k1 k2 => by rw [h11 k k1 k2, tz_sn_lt (hzP k k1 k2)]; rfl) (fun k k1 k2 => by rw [h12 k k1 k2, tz_gs_0 (fun j j1 j2 => hzP j (by omega) (by omega))]; rfl) (fun pl t5 t11 t12 q1 q4 q5 => H P pl t5 t11 t12 hP hzP ?_ q4 q5)
    rw [List.append_assoc] at q1
    exact q1
  · obtain ⟨P, e, hP, hP2, hP3⟩ := hs
    have es : nI X >>> (nI i &&& 31) = nI (X / 2 ^ i) := pk_shrN (by omega) _ i (tz_sl i (by omega))
    have hle : X / 2 ^ i ≤ X := Nat.div_le_self _ _
    have hpos : 0 < 2 ^ i := Nat.two_pow_pos i
    rw [es]
    refine pk_eq (X / 2 ^ i) 0 (fun c => nm_r (nI_1 i) (hw _ ⟨P, e, hP, by omega, Or.inl ?_⟩)) (fun c => nm_r (nI_1 i) (nm_r (nI_1 i) (hw _ ⟨i + 1, rfl, ?_, by omega, Or.inr rfl⟩)))
    · have hlt : X < 2 ^ i := (Nat.div_eq_zero_iff_lt hpos).mp c
      rcases hP3 with q | q
      · exact q
      · rw [q]; exact hlt
    · have hge : ¬ X < 2 ^ i := fun q => c (Nat.div_eq_of_lt q)
      have h13 : ¬ 13 ≤ i := fun q => hge (Nat.lt_of_lt_of_le hX (Nat.pow_le_pow_right (by decide) q))
      omega
end
/-! the sizes and signs of cells -/
def tz_z (c : Nat → Int32) (k : Nat) : Nat := (c k).toInt.natAbs
def tz_ng (c : Nat → Int32) (k : Nat) : Bool := decide ((c k).toInt < 0)
theorem tz_zp {c : Nat → Int32} {k : Nat} (h : 0 ≤ c k) : c k = nI (tz_z c k) ∧ tz_ng c k = false := by
  rw [Int32.le_iff_toInt_le, tz_0] at h
  have hl := Int32.toInt_lt (c k)
  constructor
  · apply Int32.toInt_inj.mp
    unfold tz_z
    rw [nI_toInt (by omega)]
    omega
  · exact decide_eq_false (by omega)
theorem tz_zn {c : Nat → Int32} {k : Nat} {M : Int} (hM : M ≤ 100000) (hb : tz_bd M (c k)) (h : ¬ 0 ≤ c k) : -(c k) = nI (tz_z c k) ∧ tz_ng c k = true := by
  rw [Int32.le_iff_toInt_le, tz_0] at h
  unfold tz_bd at hb
  have e : (-(c k)).toInt = -(c k).toInt := tz_neg (by omega)
  constructor
  · apply Int32.toInt_inj.mp
    unfold tz_z
    rw [nI_toInt (by omega), e]
    omega
  · exact decide_eq_true (by omega)
theorem tz_zle {c : Nat → Int32} {k : Nat} (hb : tz_bd 6143 (c k)) : tz_z c k < 2 ^ 13 := by
  unfold tz_bd at hb
  unfold tz_z
  omega
section
variable {a1 a2 a3 a4 a5 a6 a7 a8 a9 a10 a11 a12 : Nat → Int32}
theorem tz_writeFrame {post : St2 → Prop} {bs : List Bool} {pl : Int32} (f : Nat) (hf : f < 4) (hb : ∀ k, 64 * f ≤ k → k < 64 * f + 64 → tz_bd 6143 (a7 k)) (h : tz_wr bs pl a5) (hl : bs.length + 1108 ≤ 5120) (h11 : ∀ k, 64 * f ≤ k → k < 64 * f + 64 → a11 k = 0) (h12 : ∀ k, 16 * f ≤ k → k < 16 * f + 16 → a12 k = 0)
    (H : ∀ (P : Nat) (pl : Int32) (t5 t9 t10 t11 t12 : Nat → Int32), P ≤ 13 → (∀ k, 64 * f ≤ k → k < 64 * f + 64 → tz_z a7 k < 2 ^ P) → tz_wr (bs ++ tz_eF (tz_z a7) (tz_ng a7) f P) pl t5 → (∀ k, k < 64 * f ∨ 64 * f + 64 ≤ k → t11 k = a11 k) → (∀ k, k < 16 * f ∨ 16 * f + 16 ≤ k → t12 k = a12 k) → post (nI 160, pl, a1, a2, a3, a4, t5, a6, a7, a8, t9, t10, t11, t12)) :
    wpX_writeFrame post (nI 160, pl, a1, a2, a3, a4, a5, a6, a7, a8, a9, a10, a11, a12) (nI f) := by
  unfold wpX_writeFrame
  dsimp only
  refine nm_r (pk_mul 64 f) ?_
  have e64 : 64 * nI f + 64 = nI (64 * f + 64) := by rw [show (64 : Int32) = nI 64 from rfl, pk_mul, nI_add]
  refine pk_loop (σ := Int32 × (Nat → Int32) × (Nat → Int32)) (fun n i s => wX_writeFrame_7 post (nI f) (nI 160) pl n s.1 (nI i) a1 a2 a3 a4 a5 a6 a7 a8 s.2.1 s.2.2 a11 a12) (fun i s => 64 * f ≤ i ∧ ∃ X : Nat, s.1 = nI X ∧ X < 2 ^ 13 ∧ (∀ k, 64 * f ≤ k → k < i → tz_z a7 k ≤ X ∧ s.2.1 k = nI (tz_z a7 k) ∧ s.2.2 k = tz_bI (tz_ng a7 k))) (64 * f + 64) (64 * f) (0, a9, a10) (by omega) ⟨by omega, 0, rfl, by omega, fun k k1 k2 => absurd k2 (by omega)⟩
    (fun n s hs => pk_le (64 * f + 64) (64 * f + 64) (fun _ => ?_) (fun q => absurd q (by omega)) e64)
    (fun n i s hi hs hw => pk_le (64 * f + 64) i (fun q => absurd q (by omega)) (fun _ => ?_) e64)
  · obtain ⟨_, X, e, hX, hk⟩ := hs
    obtain ⟨s1, s2, s3⟩ := s
    dsimp only at e hk ⊢
    subst e
    exact tz_wf89 hf hX (fun k k1 k2 => (hk k k1 k2).1) (fun k k1 k2 => (hk k k1 k2).2.1) (fun k k1 k2 => (hk k k1 k2).2.2) h hl h11 h12 (fun P pl t5 t11 t12 p1 p2 p3 p4 p5 => H P pl t5 s2 s3 t11 t12 p1 p2 p3 p4 p5)
  · obtain ⟨hi2, X, e, hX, hk⟩ := hs
    obtain ⟨s1, s2, s3⟩ := s
    dsimp only at e hk ⊢
    subst e
    have hzi := tz_zle (hb i hi2 hi)
    have K : ∀ (J : Int32 → Int32 → (Nat → Int32) → (Nat → Int32) → (Nat → Int32) → (Nat → Int32) → (Nat → Int32) → (Nat → Int32) → (Nat → Int32) → (Nat → Int32) → (Nat → Int32) → (Nat → Int32) → (Nat → Int32) → (Nat → Int32) → Prop), J (nI (X ||| tz_z a7 i)) (nI (i + 1)) a1 a2 a3 a4 a5 a6 a7 a8 (upd s2 i (nI (tz_z a7 i))) (upd s3 i (tz_bI (tz_ng a7 i))) a11 a12 → ∀ y : Int32, y = nI (tz_z a7 i) → wX_writeFrame_68 post J (nI f) (nI X) (nI i) y (nI i) (nI 160) pl a1 a2 a3 a4 a5 a6 a7 a8 s2 (upd s3 i (tz_bI (tz_ng a7 i))) a11 a12 := by
      intro J hJ y hy
      subst hy
      unfold wX_writeFrame_68
      rw [nI_clamp (by omega)]
      refine ⟨vp_in_nI (by omega) (by omega), nm_e ⟨vp_in_nI (by omega) (by omega), ?_⟩⟩
      rw [pk_us]
      exact nm_r (tz_or _ _) (nm_r (nI_1 i) hJ)
    have F := hw (nI (X ||| tz_z a7 i), upd s2 i (nI (tz_z a7 i)), upd s3 i (tz_bI (tz_ng a7 i))) ⟨by omega, X ||| tz_z a7 i, rfl, Nat.or_lt_two_pow hX hzi, fun k k1 k2 => by
      by_cases e : k = i
      · subst e
        exact ⟨Nat.right_le_or, pk_us, pk_us⟩
      · obtain ⟨q1, q2, q3⟩ := hk k k1 (by omega)
        exact ⟨Nat.le_trans q1 Nat.left_le_or, (pk_un e).trans q2, (pk_un e).trans q3⟩⟩
    rw [nI_clamp (by omega)]
    refine ⟨vp_in_nI (by omega) (by omega), br_c (fun c => ?_) (fun c => ?_)⟩
    · obtain ⟨z1, z2⟩ := tz_zp c
      refine ⟨vp_in_nI (by omega) (by omega), nm_r (e' := upd s3 i (tz_bI (tz_ng a7 i))) (by rw [nI_clamp (by omega), tz_nar0, z2]; rfl) ⟨vp_in_nI (by omega) (by omega), ?_⟩⟩
      rw [nI_clamp (by omega), pk_us]
      exact br_t (by rw [z2]; rfl) ⟨vp_in_nI (by omega) (by omega), K _ F _ z1⟩
    · obtain ⟨z1, z2⟩ := tz_zn (by decide) (hb i hi2 hi) c
      refine ⟨vp_in_nI (by omega) (by omega), nm_r (e' := upd s3 i (tz_bI (tz_ng a7 i))) (by rw [nI_clamp (by omega), tz_nar1, z2]; rfl) ⟨vp_in_nI (by omega) (by omega), ?_⟩⟩
      rw [nI_clamp (by omega), pk_us]
      exact br_f (by rw [z2]; decide) ⟨vp_in_nI (by omega) (by omega), K _ F _ z1⟩
end
end
section
/-! the reader's cell at level p -/
def tz_rc (z : Nat → Nat) (ng : Nat → Bool) (p k : Nat) (a9 a10 a11 : Nat → Int32) : Prop := a9 k = nI (z k / 2 ^ p * 2 ^ p) ∧ a10 k = tz_bI (tz_sn (z k) p && ng k) ∧ a11 k = tz_bI (tz_sn (z k) p)
theorem tz_rc_c {z : Nat → Nat} {ng : Nat → Bool} {p k : Nat} {a9 a10 a11 b9 b10 b11 : Nat → Int32} (h : tz_rc z ng p k a9 a10 a11) (e : b9 k = a9 k ∧ b10 k = a10 k ∧ b11 k = a11 k) : tz_rc z ng p k b9 b10 b11 := ⟨e.1.trans h.1, e.2.1.trans h.2.1, e.2.2.trans h.2.2⟩
theorem tz_sn_ff {z p : Nat} (h : tz_sn z p = false) : tz_sn z (p + 1) = false := by
  cases q : tz_sn z (p + 1)
  · rfl
  · rw [tz_sn_up q] at h
    exact absurd h (by decide)
theorem tz_sn_z {z p : Nat} (h : tz_sn z p = false) : z / 2 ^ p * 2 ^ p = 0 := by
  have h1 : ¬ 2 ^ p ≤ z := of_decide_eq_false h
  rw [Nat.div_eq_of_lt (by omega), Nat.zero_mul]
theorem tz_rc_low {z : Nat → Nat} {ng : Nat → Bool} {p k : Nat} {a9 a10 a11 : Nat → Int32} (h : tz_rc z ng (p + 1) k a9 a10 a11) (q : tz_sn (z k) p = false) : tz_rc z ng p k a9 a10 a11 := by
  have q1 := tz_sn_ff q
  obtain ⟨h1, h2, h3⟩ := h
  rw [tz_sn_z q1] at h1
  rw [q1] at h2 h3
  refine ⟨?_, ?_, ?_⟩
  · rw [tz_sn_z q, h1]
  · rw [q, h2]
  · rw [q, h3]
section
variable {a1 a2 a3 a4 a5 a6 a7 a8 a9 a10 a11 a12 : Nat → Int32} {z : Nat → Nat} {ng : Nat → Bool}
theorem tz_rg43 {post : St2 → Prop} {g p : Nat} {rest : List Bool} (hg : g < 64) (hp : p < 20) : ∀ (n j : Nat) (pl : Int32) (a9 a10 a11 : Nat → Int32), j + n = 4 * g + 4 → 4 * g ≤ j → tz_rd (tz_es z ng p j n ++ rest) pl a5 →
    (∀ k, 4 * g ≤ k → k < 4 * g + 4 → tz_rc z ng (if k < j then p else p + 1) k a9 a10 a11) →
    (∀ (pl : Int32) (t9 t10 t11 : Nat → Int32), tz_rd rest pl a5 → (∀ k, 4 * g ≤ k → k < 4 * g + 4 → tz_rc z ng p k t9 t10 t11) → (∀ k, k < 4 * g ∨ 4 * g + 4 ≤ k → t9 k = a9 k ∧ t10 k = a10 k ∧ t11 k = a11 k) → post (nI 160, pl, a1, a2, a3, a4, a5, a6, a7, a8, t9, t10, t11, a12)) →
    wX_readGroup_43 post (nI g) (nI p) (n + 1) (nI j) (nI 160) pl a1 a2 a3 a4 a5 a6 a7 a8 a9 a10 a11 a12
  | 0, j, pl, a9, a10, a11, hj, hj2, h, hc, H => by
    refine pk_le (4 * g + 4) j (fun _ => H pl a9 a10 a11 h (fun k k1 k2 => ?_) (fun _ _ => ⟨rfl, rfl, rfl⟩)) (fun q => absurd q (by omega)) (by rw [show (4 : Int32) = nI 4 from rfl, pk_mul, nI_add])
    have q := hc k k1 k2
    rw [if_pos (by omega)] at q
    exact q
  | n + 1, j, pl, a9, a10, a11, hj, hj2, h, hc, H => by
    have key : ∀ (pl : Int32) (t9 t10 t11 : Nat → Int32), tz_rd (tz_es z ng p (j + 1) n ++ rest) pl a5 → tz_rc z ng p j t9 t10 t11 → (∀ k, k ≠ j → t9 k = a9 k ∧ t10 k = a10 k ∧ t11 k = a11 k) → wX_readGroup_43 post (nI g) (nI p) (n + 1) (nI (j + 1)) (nI 160) pl a1 a2 a3 a4 a5 a6 a7 a8 t9 t10 t11 a12 := by
      intro pl t9 t10 t11 hr hj11 hk11
      refine tz_rg43 hg hp n (j + 1) pl t9 t10 t11 (by omega) (by omega) hr (fun k k1 k2 => ?_) (fun pl u9 u10 u11 g1 g2 g3 => H pl u9 u10 u11 g1 g2 (fun k hk => ?_))
      · by_cases e : k = j
        · rw [e, if_pos (by omega)]
          exact hj11
        · have q := hc k k1 k2
          by_cases q2 : k < j
          · rw [if_pos q2] at q
            rw [if_pos (by omega)]
            exact tz_rc_c q (hk11 k e)
          · rw [if_neg q2] at q
            rw [if_neg (by omega)]
            exact tz_rc_c q (hk11 k e)
      · have q1 := g3 k hk
        have q2 := hk11 k (by omega)
        exact ⟨q1.1.trans q2.1, q1.2.1.trans q2.2.1, q1.2.2.trans q2.2.2⟩
    have cj := hc j hj2 (by omega)
    rw [if_neg (by omega)] at cj
    obtain ⟨c9, c10, c11⟩ := cj
    have s0 := tz_sn_step (z j) p
    have h' : tz_rd ((z j).testBit p :: ((if (z j).testBit p && !tz_sn (z j) (p + 1) then [ng j] else []) ++ (tz_es z ng p (j + 1) n ++ rest))) pl a5 := by
      have e : tz_es z ng p j (n + 1) ++ rest = (z j).testBit p :: ((if (z j).testBit p && !tz_sn (z j) (p + 1) then [ng j] else []) ++ (tz_es z ng p (j + 1) n ++ rest)) := by
        show ((z j).testBit p :: (if (z j).testBit p && !tz_sn (z j) (p + 1) then [ng j] else [])) ++ tz_es z ng p (j + 1) n ++ rest = _
        rw [List.append_assoc, List.cons_append]
      rw [← e]
      exact h
    refine pk_le (4 * g + 4) j (fun q => absurd q (by omega)) (fun _ => tz_read1 _ _ h' (fun pl h5 => ?_)) (by rw [show (4 : Int32) = nI 4 from rfl, pk_mul, nI_add])
    dsimp only
    rw [nI_clamp (by omega), c9, tz_orl hp, c11]
    refine ⟨vp_in_nI (by omega) (by omega), vp_in_nI (by omega) (by omega), nm_e ⟨vp_in_nI (by omega) (by omega), br_c (fun c1 => ?_) (fun c1 => ?_)⟩⟩
    · have s1 : tz_sn (z j) (p + 1) = false := by
        cases q : tz_sn (z j) (p + 1)
        · rfl
        · rw [q] at c1; exact absurd c1 (by decide)
      rw [s1] at h5 c10
      rw [s1, Bool.false_or] at s0
      refine br_c (fun c2 => ⟨vp_in_nI (by omega) (by omega), nm_e ?_⟩) (fun c2 => nm_r (nI_1 j) ?_)
      · have b1 : (z j).testBit p = true := tz_bI_ne _ (by rw [c2]; decide)
        rw [b1, Bool.not_false, Bool.and_self, if_pos rfl] at h5
        have e9 : upd a9 j (nI (z j / 2 ^ p * 2 ^ p)) j = nI (z j / 2 ^ p * 2 ^ p) := pk_us
        refine tz_read_21 (ng j) _ h5 (fun pl h6 => ?_)
        dsimp only
        have K : wX_readGroup_43 post (nI g) (nI p) (n + 1) (nI (j + 1)) (nI 160) pl a1 a2 a3 a4 a5 a6 a7 a8 (upd a9 j (nI (z j / 2 ^ p * 2 ^ p))) (upd a10 j (tz_bI (ng j))) (upd a11 j 1) a12 := by
          refine key pl _ _ _ h6 ⟨e9, ?_, ?_⟩ (fun k hk => ⟨pk_un hk, pk_un hk, pk_un hk⟩)
          · rw [pk_us, s0, b1, Bool.true_and]
          · rw [pk_us, s0, b1]; rfl
        refine br_c (fun c3 => ⟨vp_in_nI (by omega) (by omega), nm_e (nm_r (nI_1 j) ?_)⟩) (fun c3 => ⟨vp_in_nI (by omega) (by omega), nm_e (nm_r (nI_1 j) ?_)⟩)
        · rw [c3] at K
          exact K
        · rw [tz_bI_eq0 (show ng j = false from by
            cases q : ng j
            · rfl
            · rw [q] at c3; exact absurd rfl c3)] at K
          exact K
      · have b1 : (z j).testBit p = false := by
          cases q : (z j).testBit p
          · rfl
          · rw [q] at c2; exact absurd rfl c2
        rw [b1, Bool.false_and, if_neg (by decide), List.nil_append] at h5
        refine key pl _ _ _ h5 ⟨pk_us, ?_, ?_⟩ (fun k hk => ⟨pk_un hk, rfl, rfl⟩)
        · rw [c10, s0, b1]
        · rw [c11, s1, s0, b1]
    · have s1 := tz_bI_ne _ c1
      rw [s1, Bool.not_true, Bool.and_false, if_neg (by decide), List.nil_append] at h5
      rw [s1] at c10
      refine nm_r (nI_1 j) (key pl _ _ _ h5 ⟨pk_us, ?_, ?_⟩ (fun k hk => ⟨pk_un hk, rfl, rfl⟩))
      · rw [c10, tz_sn_up s1]
      · rw [c11, s1, tz_sn_up s1]
theorem tz_rg29 {post : St2 → Prop} {g p : Nat} {rest : List Bool} {pl : Int32} (hg : g < 64) (hp : p < 20) (h : tz_rd ((if tz_gs z g p then tz_es z ng p (4 * g) 4 else []) ++ rest) pl a5) (hc : ∀ k, 4 * g ≤ k → k < 4 * g + 4 → tz_rc z ng (p + 1) k a9 a10 a11) (h12 : a12 g = tz_bI (tz_gs z g p))
    (H : ∀ (pl : Int32) (t9 t10 t11 : Nat → Int32), tz_rd rest pl a5 → (∀ k, 4 * g ≤ k → k < 4 * g + 4 → tz_rc z ng p k t9 t10 t11) → (∀ k, k < 4 * g ∨ 4 * g + 4 ≤ k → t9 k = a9 k ∧ t10 k = a10 k ∧ t11 k = a11 k) → post (nI 160, pl, a1, a2, a3, a4, a5, a6, a7, a8, t9, t10, t11, a12)) :
    wX_readGroup_29 post (nI g) (nI p) (nI 160) pl a1 a2 a3 a4 a5 a6 a7 a8 a9 a10 a11 a12 := by
  unfold wX_readGroup_29
  rw [nI_clamp (by omega), h12]
  refine ⟨vp_in_nI (by omega) (by omega), ?_⟩
  cases q : tz_gs z g p with
  | false =>
    rw [q, if_neg (by decide), List.nil_append] at h
    exact br_t rfl (H pl a9 a10 a11 h (fun k k1 k2 => tz_rc_low (hc k k1 k2) (tz_gs_f q k k1 k2)) (fun _ _ => ⟨rfl, rfl, rfl⟩))
  | true =>
    rw [q, if_pos rfl] at h
    refine br_f (by decide) (nm_r (pk_mul 4 g) ⟨5, tz_rg43 hg hp 4 (4 * g) pl a9 a10 a11 (by omega) (by omega) h (fun k k1 k2 => ?_) H⟩)
    rw [if_neg (by omega)]
    exact hc k k1 k2
theorem tz_rgroup {post : St2 → Prop} {g p : Nat} {rest : List Bool} {pl : Int32} (hg : g < 64) (hp : p < 20) (h : tz_rd (tz_eg z ng p g ++ rest) pl a5) (hc : ∀ k, 4 * g ≤ k → k < 4 * g + 4 → tz_rc z ng (p + 1) k a9 a10 a11) (h12 : a12 g = tz_bI (tz_gs z g (p + 1)))
    (H : ∀ (pl : Int32) (t9 t10 t11 t12 : Nat → Int32), tz_rd rest pl a5 → (∀ k, 4 * g ≤ k → k < 4 * g + 4 → tz_rc z ng p k t9 t10 t11) → (∀ k, k < 4 * g ∨ 4 * g + 4 ≤ k → t9 k = a9 k ∧ t10 k = a10 k ∧ t11 k = a11 k) → t12 g = tz_bI (tz_gs z g p) → (∀ k, k ≠ g → t12 k = a12 k) → post (nI 160, pl, a1, a2, a3, a4, a5, a6, a7, a8, t9, t10, t11, t12)) :
    wpX_readGroup post (nI 160, pl, a1, a2, a3, a4, a5, a6, a7, a8, a9, a10, a11, a12) (nI g) (nI p) := by
  unfold wpX_readGroup
  dsimp only
  rw [nI_clamp (by omega), h12]
  refine ⟨vp_in_nI (by omega) (by omega), ?_⟩
  unfold tz_eg at h
  cases q : tz_gs z g (p + 1) with
  | true =>
    rw [q, if_pos rfl, List.nil_append] at h
    refine br_f (by decide) (tz_rg29 hg hp h hc ?_ (fun pl t9 t10 t11 g1 g2 g3 => H pl t9 t10 t11 a12 g1 g2 g3 ?_ (fun _ _ => rfl)))
    · rw [h12, q, tz_gs_up q]
    · rw [h12, q, tz_gs_up q]
  | false =>
    rw [q, if_neg (by decide), List.append_assoc, List.singleton_append] at h
    refine br_t rfl (tz_read_31 _ _ h (fun pl h5 => ?_))
    dsimp only
    have K : wX_readGroup_28 post (nI g) (nI p) (tz_bI (tz_gs z g p)) (nI g) (nI 160) pl a1 a2 a3 a4 a5 a6 a7 a8 a9 a10 a11 a12 := ⟨vp_in_nI (by omega) (by omega), nm_r (e' := upd a12 g (tz_bI (tz_gs z g p))) (by rw [nI_clamp (by omega), tz_bI_nar]) (tz_rg29 hg hp h5 hc pk_us (fun pl t9 t10 t11 g1 g2 g3 => H pl t9 t10 t11 _ g1 g2 g3 pk_us (fun k hk => pk_un hk)))⟩
    exact br_c (fun c => by rw [c] at K; exact K) (fun c => by
      rw [show tz_bI (tz_gs z g p) = 0 from by
        cases q2 : tz_gs z g p
        · rfl
        · rw [q2] at c; exact absurd rfl c] at K
      exact K)
theorem tz_rf56 {post : St2 → Prop} {J : Int32 → Int32 → Int32 → (Nat → Int32) → (Nat → Int32) → (Nat → Int32) → (Nat → Int32) → (Nat → Int32) → (Nat → Int32) → (Nat → Int32) → (Nat → Int32) → (Nat → Int32) → (Nat → Int32) → (Nat → Int32) → (Nat → Int32) → Prop} {f p : Nat} {rest : List Bool} (hf : f < 4) (hp : p < 20) : ∀ (n g : Nat) (pl : Int32) (a9 a10 a11 a12 : Nat → Int32), g + n = 16 * f + 16 → 16 * f ≤ g → tz_rd (tz_et z ng p g n ++ rest) pl a5 →
    (∀ k, 64 * f ≤ k → k < 64 * f + 64 → tz_rc z ng (if k < 4 * g then p else p + 1) k a9 a10 a11) → (∀ k, 16 * f ≤ k → k < 16 * f + 16 → a12 k = tz_bI (tz_gs z k (if k < g then p else p + 1))) →
    (∀ (pl : Int32) (t9 t10 t11 t12 : Nat → Int32), tz_rd rest pl a5 → (∀ k, 64 * f ≤ k → k < 64 * f + 64 → tz_rc z ng p k t9 t10 t11) → (∀ k, 16 * f ≤ k → k < 16 * f + 16 → t12 k = tz_bI (tz_gs z k p)) → (∀ k, k < 64 * f ∨ 64 * f + 64 ≤ k → t11 k = a11 k) → (∀ k, k < 16 * f ∨ 16 * f + 16 ≤ k → t12 k = a12 k) → J (nI p - 1) (nI 160) pl a1 a2 a3 a4 a5 a6 a7 a8 t9 t10 t11 t12) →
    wX_readFrame_56 post J (nI f) (nI p) (n + 1) (nI g) (nI 160) pl a1 a2 a3 a4 a5 a6 a7 a8 a9 a10 a11 a12
  | 0, g, pl, a9, a10, a11, a12, hg, hg2, h, hc, h12, H => by
    refine pk_le (16 * f + 16) g (fun _ => nm_r (e' := nI p - 1) (by rw [Int32.sub_eq_add_neg]) (H pl a9 a10 a11 a12 h (fun k k1 k2 => ?_) (fun k k1 k2 => ?_) (fun _ _ => rfl) (fun _ _ => rfl))) (fun q => absurd q (by omega)) (by rw [show (16 : Int32) = nI 16 from rfl, pk_mul, nI_add])
    · have q := hc k k1 k2
      rw [if_pos (by omega)] at q
      exact q
    · rw [h12 k k1 k2, if_pos (by omega)]
  | n + 1, g, pl, a9, a10, a11, a12, hg, hg2, h, hc, h12, H => by
    have h' : tz_rd (tz_eg z ng p g ++ (tz_et z ng p (g + 1) n ++ rest)) pl a5 := by
      rw [← List.append_assoc]
      exact h
    refine pk_le (16 * f + 16) g (fun q => absurd q (by omega)) (fun _ => ?_) (by rw [show (16 : Int32) = nI 16 from rfl, pk_mul, nI_add])
    refine tz_rgroup (by omega) hp h' (fun k k1 k2 => ?_) (by rw [h12 g (by omega) (by omega), if_neg (by omega)]) (fun pl t9 t10 t11 t12 g1 g2 g3 g4 g5 => ?_)
    · have q := hc k (by omega) (by omega)
      rw [if_neg (by omega)] at q
      exact q
    refine nm_r (nI_1 g) (tz_rf56 hf hp n (g + 1) pl t9 t10 t11 t12 (by omega) (by omega) g1 (fun k k1 k2 => ?_) (fun k k1 k2 => ?_) (fun pl u9 u10 u11 u12 q1 q2 q3 q4 q5 => H pl u9 u10 u11 u12 q1 q2 q3 (fun k hk => ?_) (fun k hk => ?_)))
    · have q := hc k k1 k2
      by_cases c : k < 4 * g
      · rw [if_pos c] at q
        rw [if_pos (by omega)]
        exact tz_rc_c q (g3 k (by omega))
      · by_cases c2 : k < 4 * g + 4
        · rw [if_pos (by omega)]
          exact g2 k (by omega) (by omega)
        · rw [if_neg c] at q
          rw [if_neg (by omega)]
          exact tz_rc_c q (g3 k (by omega))
    · by_cases c : k = g
      · rw [c, if_pos (by omega), g4]
      · rw [g5 k c, h12 k k1 k2]
        by_cases c2 : k < g
        · rw [if_pos c2, if_pos (by omega)]
        · rw [if_neg c2, if_neg (by omega)]
    · rw [q4 k hk, (g3 k (by omega)).2.2]
    · rw [q5 k hk, g5 k (by omega)]
theorem tz_rf46 {post : St2 → Prop} {f : Nat} {rest : List Bool} (hf : f < 4) : ∀ (c : Nat) (pl : Int32) (a9 a10 a11 a12 : Nat → Int32), c < 20 → tz_rd (tz_ef z ng (16 * f) c ++ rest) pl a5 →
    (∀ k, 64 * f ≤ k → k < 64 * f + 64 → tz_rc z ng c k a9 a10 a11) → (∀ k, 16 * f ≤ k → k < 16 * f + 16 → a12 k = tz_bI (tz_gs z k c)) →
    (∀ (pl : Int32) (t9 t10 t11 t12 : Nat → Int32), tz_rd rest pl a5 → (∀ k, 64 * f ≤ k → k < 64 * f + 64 → tz_rc z ng 0 k t9 t10 t11) → (∀ k, k < 64 * f ∨ 64 * f + 64 ≤ k → t11 k = a11 k) → (∀ k, k < 16 * f ∨ 16 * f + 16 ≤ k → t12 k = a12 k) → ∃ n, wX_readFrame_92 post (nI f) (nI 160) pl n (nI (64 * f)) a1 a2 a3 a4 a5 a6 a7 a8 t9 t10 t11 t12) →
    wX_readFrame_46 post (nI f) (c + 1) (nI c - 1) (nI 160) pl a1 a2 a3 a4 a5 a6 a7 a8 a9 a10 a11 a12
  | 0, pl, a9, a10, a11, a12, hc, h, h11, h12, H => br_t (by decide) (nm_r (pk_mul 64 f) (H pl a9 a10 a11 a12 h h11 (fun _ _ => rfl) (fun _ _ => rfl)))
  | c + 1, pl, a9, a10, a11, a12, hc, h, h11, h12, H => by
    have h' : tz_rd (tz_et z ng c (16 * f) 16 ++ (tz_ef z ng (16 * f) c ++ rest)) pl a5 := by
      rw [← List.append_assoc]
      exact h
    rw [nI_pred]
    refine br_f (nI_pos (by omega)) (nm_r (pk_mul 16 f) ⟨17, ?_⟩)
    refine tz_rf56 hf (by omega) 16 (16 * f) pl a9 a10 a11 a12 (by omega) (by omega) h' (fun k k1 k2 => by rw [if_neg (by omega)]; exact h11 k k1 k2) (fun k k1 k2 => by rw [h12 k k1 k2, if_neg (by omega)]) (fun pl t9 t10 t11 t12 g1 g2 g3 g4 g5 => ?_)
    refine tz_rf46 hf c pl t9 t10 t11 t12 (by omega) g1 g2 g3 (fun pl u9 u10 u11 u12 q1 q2 q4 q5 => H pl u9 u10 u11 u12 q1 q2 (fun k hk => ?_) (fun k hk => ?_))
    · rw [q4 k hk, g4 k hk]
    · rw [q5 k hk, g5 k hk]
end
theorem tz_zval {c a9 a10 a11 : Nat → Int32} {k : Nat} (h : tz_rc (tz_z c) (tz_ng c) 0 k a9 a10 a11) (hb : tz_bd 6143 (c k)) : (a10 k = 0 ∧ a9 k = c k) ∨ (¬ a10 k = 0 ∧ -(a9 k) = c k) := by
  obtain ⟨h1, h2, _⟩ := h
  rw [Nat.pow_zero, Nat.div_one, Nat.mul_one] at h1
  by_cases q : 0 ≤ c k
  · obtain ⟨z1, z2⟩ := tz_zp q
    exact Or.inl ⟨by rw [h2, z2, Bool.and_false]; rfl, by rw [h1, ← z1]⟩
  · obtain ⟨z1, z2⟩ := tz_zn (by decide) hb q
    refine Or.inr ⟨?_, by rw [h1, ← z1, Int32.neg_neg]⟩
    have s : tz_sn (tz_z c k) 0 = true := by
      refine decide_eq_true ?_
      rw [Int32.le_iff_toInt_le, tz_0] at q
      unfold tz_z
      show 1 ≤ _
      omega
    rw [h2, z2, s]
    decide
section
variable {a1 a2 a3 a4 a5 a6 a7 a8 a9 a10 a11 a12 : Nat → Int32}
theorem tz_rf92 {post : St2 → Prop} {pl : Int32} {c : Nat → Int32} {f : Nat} (hf : f < 4) (hv : ∀ k, 64 * f ≤ k → k < 64 * f + 64 → (a10 k = 0 ∧ a9 k = c k) ∨ (¬ a10 k = 0 ∧ -(a9 k) = c k))
    (H : ∀ t7 : Nat → Int32, (∀ k, 64 * f ≤ k → k < 64 * f + 64 → t7 k = c k) → (∀ k, k < 64 * f ∨ 64 * f + 64 ≤ k → t7 k = a7 k) → post (nI 160, pl, a1, a2, a3, a4, a5, a6, t7, a8, a9, a10, a11, a12)) : ∃ n, wX_readFrame_92 post (nI f) (nI 160) pl n (nI (64 * f)) a1 a2 a3 a4 a5 a6 a7 a8 a9 a10 a11 a12 := by
  have e64 : 64 * nI f + 64 = nI (64 * f + 64) := by rw [show (64 : Int32) = nI 64 from rfl, pk_mul, nI_add]
  refine pk_loop (σ := Nat → Int32) (fun n i s => wX_readFrame_92 post (nI f) (nI 160) pl n (nI i) a1 a2 a3 a4 a5 a6 s a8 a9 a10 a11 a12) (fun i s => 64 * f ≤ i ∧ (∀ k, 64 * f ≤ k → k < i → s k = c k) ∧ (∀ k, k < 64 * f ∨ i ≤ k → s k = a7 k)) (64 * f + 64) (64 * f) a7 (by omega) ⟨by omega, fun k k1 k2 => absurd k2 (by omega), fun _ _ => rfl⟩
    (fun n s hs => pk_le (64 * f + 64) (64 * f + 64) (fun _ => H s hs.2.1 hs.2.2) (fun q => absurd q (by omega)) e64)
    (fun n i s hi hs hw => pk_le (64 * f + 64) i (fun q => absurd q (by omega)) (fun _ => ?_) e64)
  obtain ⟨hi2, h1, h2⟩ := hs
  have F := hw (upd s i (c i)) ⟨by omega, fun k k1 k2 => by
      by_cases e : k = i
      · rw [e, pk_us]
      · rw [pk_un e]; exact h1 k k1 (by omega), fun k hk => by
      rw [pk_un (by omega)]
      exact h2 k (by omega)⟩
  rw [nI_clamp (by omega)]
  refine ⟨vp_in_nI (by omega) (by omega), ?_⟩
  rcases hv i hi2 hi with ⟨q1, q2⟩ | ⟨q1, q2⟩
  · exact br_t q1 ⟨vp_in_nI (by omega) (by omega), vp_in_nI (by omega) (by omega), nm_r (by rw [q2]) (nm_r (nI_1 i) F)⟩
  · exact br_f q1 ⟨vp_in_nI (by omega) (by omega), vp_in_nI (by omega) (by omega), nm_r (by rw [q2]) (nm_r (nI_1 i) F)⟩
theorem tz_readFrame {post : St2 → Prop} {pl : Int32} {rest : List Bool} {c : Nat → Int32} (f P : Nat) (hf : f < 4) (hP : P ≤ 13) (hz : ∀ k, 64 * f ≤ k → k < 64 * f + 64 → tz_z c k < 2 ^ P) (hb : ∀ k, 64 * f ≤ k → k < 64 * f + 64 → tz_bd 6143 (c k)) (h : tz_rd (tz_eF (tz_z c) (tz_ng c) f P ++ rest) pl a5) (h11 : ∀ k, 64 * f ≤ k → k < 64 * f + 64 → a11 k = 0) (h12 : ∀ k, 16 * f ≤ k → k < 16 * f + 16 → a12 k = 0)
    (H : ∀ (pl : Int32) (t7 t9 t10 t11 t12 : Nat → Int32), tz_rd rest pl a5 → (∀ k, 64 * f ≤ k → k < 64 * f + 64 → t7 k = c k) → (∀ k, k < 64 * f ∨ 64 * f + 64 ≤ k → t7 k = a7 k) → (∀ k, k < 64 * f ∨ 64 * f + 64 ≤ k → t11 k = a11 k) → (∀ k, k < 16 * f ∨ 16 * f + 16 ≤ k → t12 k = a12 k) → post (nI 160, pl, a1, a2, a3, a4, a5, a6, t7, a8, t9, t10, t11, t12)) :
    wpX_readFrame post (nI 160, pl, a1, a2, a3, a4, a5, a6, a7, a8, a9, a10, a11, a12) (nI f) := by
  unfold wpX_readFrame
  dsimp only
  refine nm_r (pk_mul 64 f) ?_
  have e64 : 64 * nI f + 64 = nI (64 * f + 64) := by rw [show (64 : Int32) = nI 64 from rfl, pk_mul, nI_add]
  refine pk_loop (σ := (Nat → Int32) × (Nat → Int32)) (fun n i s => wX_readFrame_5 post (nI f) (nI 160) pl n (nI i) a1 a2 a3 a4 a5 a6 a7 a8 s.1 s.2 a11 a12) (fun i s => 64 * f ≤ i ∧ (∀ k, 64 * f ≤ k → k < i → s.1 k = 0 ∧ s.2 k = 0)) (64 * f + 64) (64 * f) (a9, a10) (by omega) ⟨by omega, fun k k1 k2 => absurd k2 (by omega)⟩
    (fun n s hs => pk_le (64 * f + 64) (64 * f + 64) (fun _ => ?_) (fun q => absurd q (by omega)) e64)
    (fun n i s hi hs hw => pk_le (64 * f + 64) i (fun q => absurd q (by omega)) (fun _ => ?_) e64)
  · obtain ⟨s1, s2⟩ := s
    have hs2 := hs.2
    dsimp only at hs2 ⊢
    unfold tz_eF at h
    rw [List.append_assoc] at h
    refine tz_read 4 _ _ h (tz_wb_len _ _) (by omega) (fun pl h5 => ?_)
    rw [tz_val_wb (by omega) (Nat.lt_of_le_of_lt hP (by decide))]
    refine nm_e ⟨P + 1, tz_rf46 hf P pl s1 s2 a11 a12 (by omega) h5 (fun k k1 k2 => ⟨?_, ?_, ?_⟩) (fun k k1 k2 => ?_) (fun pl t9 t10 t11 t12 q1 q2 q4 q5 => ?_)⟩
    · rw [(hs2 k k1 k2).1, tz_sn_z (tz_sn_lt (hz k k1 k2))]; rfl
    · rw [(hs2 k k1 k2).2, tz_sn_lt (hz k k1 k2)]; rfl
    · rw [h11 k k1 k2, tz_sn_lt (hz k k1 k2)]; rfl
    · rw [h12 k k1 k2, tz_gs_0 (fun j j1 j2 => hz j (by omega) (by omega))]; rfl
    · exact tz_rf92 hf (fun k k1 k2 => tz_zval (q2 k k1 k2) (hb k k1 k2)) (fun t7 p1 p2 => H pl t7 t9 t10 t11 t12 q1 p1 p2 q4 q5)
  · obtain ⟨s1, s2⟩ := s
    obtain ⟨hi2, hs2⟩ := hs
    dsimp only at hs2 ⊢
    have F := hw (upd s1 i 0, upd s2 i 0) ⟨by omega, fun k k1 k2 => by
      dsimp only
      by_cases e : k = i
      · rw [e, pk_us, pk_us]; exact ⟨rfl, rfl⟩
      · rw [pk_un e, pk_un e]; exact hs2 k k1 (by omega)⟩
    rw [nI_clamp (by omega)]
    exact ⟨vp_in_nI (by omega) (by omega), nm_e ⟨vp_in_nI (by omega) (by omega), nm_e (nm_r (nI_1 i) F)⟩⟩
end
end
section
/-! the whole stream -/
def tz_pb : Nat → List Bool
  | 0 => []
  | n + 1 => tz_wb (nI 12) 5 ++ tz_pb n
theorem tz_pb_len : ∀ n, (tz_pb n).length = 5 * n
  | 0 => rfl
  | n + 1 => by
    show (tz_wb (nI 12) 5 ++ tz_pb n).length = _
    rw [List.length_append, tz_wb_len, tz_pb_len n]
    omega
def tz_fs (c : Nat → Int32) : Nat → List Nat → List Bool
  | _, [] => []
  | f, P :: Ps => tz_eF (tz_z c) (tz_ng c) f P ++ tz_fs c (f + 1) Ps
def tz_ok (c : Nat → Int32) : Nat → List Nat → Prop
  | _, [] => True
  | f, P :: Ps => (P ≤ 13 ∧ ∀ k, 64 * f ≤ k → k < 64 * f + 64 → tz_z c k < 2 ^ P) ∧ tz_ok c (f + 1) Ps
theorem tz_fs_len (c : Nat → Int32) : ∀ (Ps : List Nat) (f : Nat), tz_ok c f Ps → (tz_fs c f Ps).length ≤ 1108 * Ps.length
  | [], _, _ => Nat.zero_le _
  | P :: Ps, f, h => by
    show (tz_eF (tz_z c) (tz_ng c) f P ++ tz_fs c (f + 1) Ps).length ≤ 1108 * (Ps.length + 1)
    rw [List.length_append]
    have h1 := tz_eF_len (tz_z c) (tz_ng c) f P h.1.1
    have h2 := tz_fs_len c Ps (f + 1) h.2
    omega
theorem tz_iv_c {s : Nat} {a a' b b' : Nat → Int32} (h : tz_iv s a a') (e1 : ∀ k, tz_re s k → a k = b k) (e2 : ∀ k, tz_re s k → a' k = b' k) : tz_iv s b b' := fun u u' hs hu k hk => (h u u' hs (fun k hk => (hu k hk).trans (e2 k hk).symm) k hk).trans (e1 k hk)
/-- what encode leaves: the stream t5 holds c, and c is the frames a1 lifted -/
def tz_enc (a1 t5 : Nat → Int32) : Prop := ∃ (s c : Nat → Int32) (Ps : List Nat), (∀ k, k < 256 → s k = a1 k) ∧ (∀ f, f < 4 → tz_iv (64 * f) (tz_ad 1 64 (tz_pr (-1) 64 s)) c) ∧ (∀ k, k < 256 → tz_bd 6143 (c k)) ∧ tz_ok c 0 Ps ∧ Ps.length = 4 ∧ tz_ws (tz_pb 12 ++ tz_fs c 0 Ps) t5
theorem tz_ws_0 {s : Nat → Int32} (h : ∀ k, 160 ≤ k → k < 320 → s k = 0) : tz_ws [] s := by
  intro q hq
  unfold tz_sb
  rw [h _ (by omega) (by omega), tz_b0]
  rfl
section
variable {fb fp : Int32} {a1 a2 a3 a4 a5 a6 a7 a8 a9 a10 a11 a12 : Nat → Int32}
theorem tz_en152 {post : Int32 → St2 → Prop} (hb : ∀ k, k < 256 → tz_bd 6143 (a7 k)) : ∀ (n f : Nat) (bs : List Bool) (pl : Int32) (a5 a9 a10 a11 a12 : Nat → Int32), f + n = 4 → tz_wr bs pl a5 → bs.length + 1108 * n ≤ 5120 → (∀ k, 64 * f ≤ k → k < 256 → a11 k = 0) → (∀ k, 16 * f ≤ k → k < 64 → a12 k = 0) →
    (∀ (Ps : List Nat) (pl : Int32) (t5 t9 t10 t11 t12 : Nat → Int32), Ps.length = n → tz_ok a7 f Ps → tz_wr (bs ++ tz_fs a7 f Ps) pl t5 → post 0 (nI 160, pl, a1, a2, a3, a4, t5, upd a6 1 1, a7, a8, t9, t10, t11, t12)) →
    wX_encode_152 post 1 (n + 1) (nI f) (nI 160) pl a1 a2 a3 a4 a5 a6 a7 a8 a9 a10 a11 a12
  | 0, f, bs, pl, a5, a9, a10, a11, a12, hf, h, hl, h11, h12, H => pk_le 4 f (fun _ => ⟨pk_in 1 2 (by omega), nm_r (e' := upd a6 1 1) (by rw [pk_cl 1]) (H [] pl a5 a9 a10 a11 a12 rfl trivial (by rw [show tz_fs a7 f [] = [] from rfl, List.append_nil]; exact h))⟩) (fun q => absurd q (by omega))
  | n + 1, f, bs, pl, a5, a9, a10, a11, a12, hf, h, hl, h11, h12, H => by
    refine pk_le 4 f (fun q => absurd q (by omega)) (fun _ => ?_)
    refine tz_writeFrame f (by omega) (fun k k1 k2 => hb k (by omega)) h (by omega) (fun k k1 k2 => h11 k k1 (by omega)) (fun k k1 k2 => h12 k k1 (by omega)) (fun P pl t5 t9 t10 t11 t12 hP hz g1 g4 g5 => ?_)
    have hle := tz_eF_len (tz_z a7) (tz_ng a7) f P hP
    refine nm_r (nI_1 f) (tz_en152 hb n (f + 1) _ pl t5 t9 t10 t11 t12 (by omega) g1 (by rw [List.length_append]; omega) (fun k k1 k2 => by rw [g4 k (by omega), h11 k (by omega) k2]) (fun k k1 k2 => by rw [g5 k (by omega), h12 k (by omega) k2]) (fun Ps pl u5 u9 u10 u11 u12 q1 q2 q3 => H (P :: Ps) pl u5 u9 u10 u11 u12 (by rw [List.length_cons, q1]) ⟨⟨hP, hz⟩, q2⟩ ?_))
    rw [List.append_assoc] at q3
    exact q3
theorem tz_en127 {post : Int32 → St2 → Prop} (h8 : ∀ k, k < 12 → a8 k = 12) : ∀ (n i : Nat) (bs : List Bool) (pl : Int32) (a5 : Nat → Int32), i + n = 12 → tz_wr bs pl a5 → bs.length + 5 * n ≤ 5120 →
    (∀ (pl : Int32) (t5 : Nat → Int32), tz_wr (bs ++ tz_pb n) pl t5 → ∃ k, wX_encode_152 post 1 k 0 (nI 160) pl a1 a2 a3 a4 t5 a6 a7 a8 a9 a10 a11 a12) →
    wX_encode_127 post 1 (n + 1) (nI i) (nI 160) pl a1 a2 a3 a4 a5 a6 a7 a8 a9 a10 a11 a12
  | 0, i, bs, pl, a5, hi, h, hl, H => pk_le 12 i (fun _ => H pl a5 (by rw [show tz_pb 0 = [] from rfl, List.append_nil]; exact h)) (fun q => absurd q (by omega))
  | n + 1, i, bs, pl, a5, hi, h, hl, H => by
    refine pk_le 12 i (fun q => absurd q (by omega)) (fun _ => ⟨pk_in i 12 (by omega), ?_⟩)
    rw [nI_clamp (by omega), h8 i (by omega)]
    refine tz_write 5 h (by omega) (by omega) (fun pl t5 h5 => nm_r (nI_1 i) ?_)
    refine tz_en127 h8 n (i + 1) (bs ++ tz_wb (nI 12) 5) pl t5 (by omega) h5 (by rw [List.length_append, tz_wb_len]; omega) (fun pl u5 h6 => H pl u5 ?_)
    rw [List.append_assoc] at h6
    exact h6
theorem tz_en100 {post : Int32 → St2 → Prop} {pl : Int32} (H : ∀ t5 : Nat → Int32, tz_ws [] t5 → ∃ k, wX_encode_127 post 1 k 0 (nI 160) pl a1 a2 a3 a4 t5 a6 a7 a8 a9 a10 a11 a12) : ∃ k, wX_encode_100 post 1 (nI 160) pl k 0 a1 a2 a3 a4 a5 a6 a7 a8 a9 a10 a11 a12 := by
  refine pk_loop (σ := Nat → Int32) (fun n i s => wX_encode_100 post 1 (nI 160) pl n (nI i) a1 a2 a3 a4 s a6 a7 a8 a9 a10 a11 a12) (fun i s => ∀ k, 160 ≤ k → k < 160 + i → s k = 0) 160 0 a5 (by omega) (fun k k1 k2 => absurd k2 (by omega))
    (fun n s h => pk_le 160 160 (fun _ => H s (tz_ws_0 h)) (fun q => absurd q (by omega)))
    (fun n i s hi h hw => pk_le 160 i (fun q => absurd q (by omega)) (fun _ => ?_))
  rw [nI_add, nI_clamp (by omega)]
  refine ⟨vp_in_nI (by omega) (by omega), nm_e (nm_r (nI_1 i) (hw _ (fun k k1 k2 => ?_)))⟩
  by_cases e : k = 160 + i
  · rw [e, pk_us]
  · rw [pk_un e]
    exact h k k1 (by omega)
theorem tz_en74 {post : Int32 → St2 → Prop} (hb : ∀ k, k < 256 → tz_bd 383 (a7 k)) (H : ∀ c b11 b12 : Nat → Int32, (∀ f, f < 4 → tz_iv (64 * f) a7 c) → (∀ k, k < 256 → tz_bd 6143 (c k)) → (∀ j, j < 256 → b11 j = 0) → (∀ j, j < 64 → b12 j = 0) → ∃ k, wX_encode_100 post 1 (nI 160) (nI 0) k 0 a1 a2 a3 a4 a5 a6 c a8 a9 a10 b11 b12) : ∃ k, wX_encode_74 post 1 k 0 fb fp a1 a2 a3 a4 a5 a6 a7 a8 a9 a10 a11 a12 := by
  refine pk_loop (σ := Nat → Int32) (fun n i s => wX_encode_74 post 1 n (nI i) fb fp a1 a2 a3 a4 a5 a6 s a8 a9 a10 a11 a12) (fun i s => (∀ f, f < i → tz_iv (64 * f) a7 s) ∧ (∀ k, k < 64 * i → tz_bd 6143 (s k)) ∧ (∀ k, 64 * i ≤ k → s k = a7 k)) 4 0 a7 (by omega) ⟨lt_0, fun k hk => absurd hk (by omega), fun _ _ => rfl⟩
    (fun n s h => pk_le 4 4 (fun _ => tz_open (fun b11 b12 g1 g2 => H s b11 b12 h.1 (fun k hk => h.2.1 k (by omega)) g1 g2)) (fun q => absurd q (by omega)))
    (fun n i s hi h hw => pk_le 4 i (fun q => absurd q (by omega)) (fun _ => ?_))
  obtain ⟨h1, h2, h3⟩ := h
  refine tz_analyse (64 * i) (by omega) (fun t ht => ?_) (pk_mul 64 i)
  have ho := tz_an_out ht
  refine nm_r (nI_1 i) (hw t ⟨fun f hf => ?_, fun k hk => ?_, fun k hk => ?_⟩)
  · by_cases e : f = i
    · subst e
      exact tz_iv_c (tz_an_iv ht) (fun k hk => h3 k hk.1) (fun _ _ => rfl)
    · refine tz_iv_c (h1 f (by omega)) (fun _ _ => rfl) (fun k hk => (ho k (fun q => ?_)).symm)
      have q1 := q.1
      have q2 := hk.2
      omega
  · by_cases q : k < 64 * i
    · rw [ho k (fun z => absurd z.1 (by omega))]
      exact h2 k q
    · refine tz_an_bd ht (fun j hj => ?_) k ⟨by omega, by omega⟩
      have j1 := hj.1
      have j2 := hj.2
      rw [h3 j j1]
      exact hb j (by omega)
  · rw [ho k (fun z => absurd z.2 (by omega))]
    exact h3 k (by omega)
theorem tz_en38 {post : Int32 → St2 → Prop} (h3 : ∀ j, j < 12 → a3 j = 12) (H : ∀ b8 : Nat → Int32, (∀ j, j < 12 → b8 j = 12) → ∃ k, wX_encode_74 post 1 k 0 fb fp a1 a2 a3 a4 a5 a6 (tz_ad 1 64 (tz_pr (-1) 64 a7)) b8 a9 a10 a11 a12) : ∃ k, wX_encode_38 post 1 fb fp k 0 a1 a2 a3 a4 a5 a6 a7 a8 a9 a10 a11 a12 := by
  refine pk_loop (σ := Nat → Int32) (fun n i s => wX_encode_38 post 1 fb fp n (nI i) a1 a2 a3 a4 a5 a6 a7 s a9 a10 a11 a12) (fun i s => ∀ j, j < i → s j = 12) 12 0 a8 (by omega) lt_0
    (fun n s h => pk_le 12 12 (fun _ => tz_predict h (tz_adjust h (H s h))) (fun q => absurd q (by omega)))
    (fun n i s hi h hw => pk_le 12 i (fun q => absurd q (by omega)) (fun _ => ⟨pk_in i 12 hi, pk_in i 12 hi, nm_e (nm_r (nI_1 i) (hw _ (tz_fill (f := fun _ => 12) (nI_clamp (by omega)) h (by rw [nI_clamp (by omega)]; exact h3 i hi))))⟩))
theorem tz_encode {post : Int32 → St2 → Prop} (h1 : ∀ k, k < 256 → tz_by (a1 k)) (h3 : ∀ j, j < 12 → a3 j = 12)
    (H : ∀ (b pl : Int32) (t5 t7 t8 t9 t10 t11 t12 : Nat → Int32), tz_enc a1 t5 → post 0 (b, pl, a1, a2, a3, a4, t5, upd a6 1 1, t7, t8, t9, t10, t11, t12)) : wpX_encode post (fb, fp, a1, a2, a3, a4, a5, a6, a7, a8, a9, a10, a11, a12) 1 := by
  unfold wpX_encode
  dsimp only
  refine tz_isS1 (br_f (by decide) ?_)
  refine pk_loop (σ := Nat → Int32) (fun n i s => wX_encode_11 post 1 fb fp n (nI i) a1 a2 a3 a4 a5 a6 s a8 a9 a10 a11 a12) (fun i s => ∀ j, j < i → s j = a1 j) 256 0 a7 (by omega) lt_0
    (fun n s h => pk_le 256 256 (fun _ => ?_) (fun q => absurd q (by omega)))
    (fun n i s hi h hw => pk_le 256 i (fun q => absurd q (by omega)) (fun _ => ⟨pk_in i 256 hi, pk_in i 256 hi, nm_e (nm_r (nI_1 i) (hw _ (tz_fill (nI_clamp (by omega)) h (by rw [nI_clamp (by omega)]))))⟩))
  refine tz_en38 h3 (fun b8 h8 => tz_en74 (tz_ad_bd (tz_pr_bd (fun k hk => by rw [h k hk]; exact h1 k hk))) (fun c b11 b12 g1 g2 g3 g4 => tz_en100 (fun t5 h5 => ⟨13, ?_⟩)))
  refine tz_en127 h8 12 0 [] (nI 0) t5 (by omega) ⟨rfl, h5⟩ (by decide) (fun pl u5 q1 => ⟨5, ?_⟩)
  refine tz_en152 g2 4 0 _ pl u5 a9 a10 b11 b12 (by omega) q1 (by rw [List.nil_append, tz_pb_len]; decide) (fun k _ hk => g3 k hk) (fun k _ hk => g4 k hk) (fun Ps pl v5 v9 v10 v11 v12 r1 r2 r3 => H (nI 160) pl v5 c b8 v9 v10 v11 v12 ⟨s, c, Ps, h, g1, g2, r2, r1, ?_⟩)
  have r4 := r3.2
  rw [List.nil_append] at r4
  exact r4
theorem tz_encode2 {post : Int32 → St2 → Prop} (H : post (-1) (fb, fp, a1, a2, a3, a4, a5, a6, a7, a8, a9, a10, a11, a12)) : wpX_encode post (fb, fp, a1, a2, a3, a4, a5, a6, a7, a8, a9, a10, a11, a12) 2 := by
  unfold wpX_encode
  dsimp only
  exact tz_isS2 (br_t rfl H)
theorem tz_de140 {post : Int32 → St2 → Prop} {x2 : Int32} (H : ∀ t4 : Nat → Int32, post x2 (fb, fp, a1, a2, a3, t4, a5, a6, a7, a8, a9, a10, a11, a12)) : ∃ k, wX_decode_140 post x2 fb fp k 0 a1 a2 a3 a4 a5 a6 a7 a8 a9 a10 a11 a12 := by
  refine pk_loop (σ := Nat → Int32) (fun n i s => wX_decode_140 post x2 fb fp n (nI i) a1 a2 a3 s a5 a6 a7 a8 a9 a10 a11 a12) (fun _ _ => True) 12 0 a4 (by omega) trivial
    (fun n s h => pk_le 12 12 (fun _ => H s) (fun q => absurd q (by omega)))
    (fun n i s hi h hw => pk_le 12 i (fun q => absurd q (by omega)) (fun _ => ⟨pk_in i 12 hi, pk_in i 12 hi, nm_e (nm_r (nI_1 i) (hw _ trivial))⟩))
theorem tz_de104 {post : Int32 → St2 → Prop} (H : ∀ t2 : Nat → Int32, (∀ k, k < 256 → t2 k = a7 k) → ∃ k, wX_decode_140 post (bx_sum a7 256) fb fp k 0 a1 t2 a3 a4 a5 a6 a7 a8 a9 a10 a11 a12) : ∃ k, wX_decode_104 post fb fp k 0 0 a1 a2 a3 a4 a5 a6 a7 a8 a9 a10 a11 a12 := by
  refine pk_loop (σ := Int32 × (Nat → Int32)) (fun n i s => wX_decode_104 post fb fp n s.1 (nI i) a1 s.2 a3 a4 a5 a6 a7 a8 a9 a10 a11 a12) (fun i s => s.1 = bx_sum a7 i ∧ ∀ k, k < i → s.2 k = a7 k) 256 0 (0, a2) (by omega) ⟨rfl, lt_0⟩
    (fun n s h => pk_le 256 256 (fun _ => by rw [h.1]; exact H s.2 h.2) (fun q => absurd q (by omega)))
    (fun n i s hi h hw => pk_le 256 i (fun q => absurd q (by omega)) (fun _ => ⟨pk_in i 256 hi, pk_in i 256 hi, nm_e ⟨pk_in i 256 hi, nm_e (nm_r (nI_1 i) (hw (_, _) ⟨?_, tz_fill (nI_clamp (by omega)) h.2 (by rw [nI_clamp (by omega)])⟩))⟩⟩))
  rw [h.1, nI_clamp (by omega)]
  rfl
theorem tz_de71 {post : Int32 → St2 → Prop} {c c0 : Nat → Int32} (h8 : ∀ j, j < 12 → a8 j = 12) (hc : ∀ k, k < 256 → a7 k = c k) (hv : ∀ f, f < 4 → tz_iv (64 * f) c0 c) (H : ∀ t : Nat → Int32, (∀ k, k < 256 → t k = c0 k) → ∃ k, wX_decode_104 post fb fp k 0 0 a1 a2 a3 a4 a5 a6 (tz_pr 1 64 (tz_ad (-1) 64 t)) a8 a9 a10 a11 a12) : ∃ k, wX_decode_71 post k 0 fb fp a1 a2 a3 a4 a5 a6 a7 a8 a9 a10 a11 a12 := by
  refine pk_loop (σ := Nat → Int32) (fun n i s => wX_decode_71 post n (nI i) fb fp a1 a2 a3 a4 a5 a6 s a8 a9 a10 a11 a12) (fun i s => (∀ k, k < 64 * i → s k = c0 k) ∧ (∀ k, 64 * i ≤ k → k < 256 → s k = c k)) 4 0 a7 (by omega) ⟨fun k hk => absurd hk (by omega), fun k _ hk => hc k hk⟩
    (fun n s h => pk_le 4 4 (fun _ => tz_adjust h8 (tz_predict h8 (H s (fun k hk => h.1 k (by omega))))) (fun q => absurd q (by omega)))
    (fun n i s hi h hw => pk_le 4 i (fun q => absurd q (by omega)) (fun _ => ?_))
  obtain ⟨h1, h2⟩ := h
  refine tz_synthesise (64 * i) (by omega) (fun t ht => ?_) (pk_mul 64 i)
  have ho := tz_sy_out ht
  have hin := hv i hi s t ht (fun k hk => h2 k hk.1 (by have := hk.2; omega))
  refine nm_r (nI_1 i) (hw t ⟨fun k hk => ?_, fun k k1 k2 => ?_⟩)
  · by_cases q : k < 64 * i
    · rw [ho k (fun z => absurd z.1 (by omega))]
      exact h1 k q
    · exact hin k ⟨by omega, by omega⟩
  · rw [ho k (fun z => absurd z.2 (by omega))]
    exact h2 k (by omega) k2
theorem tz_de53 {post : Int32 → St2 → Prop} {c : Nat → Int32} (hb : ∀ k, k < 256 → tz_bd 6143 (c k)) : ∀ (Ps : List Nat) (f : Nat) (pl : Int32) (a7 a9 a10 a11 a12 : Nat → Int32), f + Ps.length = 4 → tz_ok c f Ps → tz_rd (tz_fs c f Ps) pl a5 → (∀ k, k < 64 * f → a7 k = c k) → (∀ k, 64 * f ≤ k → k < 256 → a11 k = 0) → (∀ k, 16 * f ≤ k → k < 64 → a12 k = 0) →
    (∀ (pl : Int32) (t7 t9 t10 t11 t12 : Nat → Int32), (∀ k, k < 256 → t7 k = c k) → ∃ k, wX_decode_71 post k 0 (nI 160) pl a1 a2 a3 a4 a5 a6 t7 a8 t9 t10 t11 t12) →
    wX_decode_53 post (Ps.length + 1) (nI f) (nI 160) pl a1 a2 a3 a4 a5 a6 a7 a8 a9 a10 a11 a12
  | [], f, pl, a7, a9, a10, a11, a12, hf, hok, h, h7, h11, h12, H => by
    have hf' : f + 0 = 4 := hf
    exact pk_le 4 f (fun _ => H pl a7 a9 a10 a11 a12 (fun k hk => h7 k (by omega))) (fun q => absurd q (by omega))
  | P :: Ps, f, pl, a7, a9, a10, a11, a12, hf, hok, h, h7, h11, h12, H => by
    rw [List.length_cons] at hf
    refine pk_le 4 f (fun q => absurd q (by omega)) (fun _ => ?_)
    refine tz_readFrame f P (by omega) hok.1.1 hok.1.2 (fun k k1 k2 => hb k (by omega)) h (fun k k1 k2 => h11 k k1 (by omega)) (fun k k1 k2 => h12 k k1 (by omega)) (fun pl t7 t9 t10 t11 t12 g1 g2 g3 g4 g5 => ?_)
    refine nm_r (nI_1 f) (tz_de53 hb Ps (f + 1) pl t7 t9 t10 t11 t12 (by omega) hok.2 g1 (fun k hk => ?_) (fun k k1 k2 => by rw [g4 k (by omega), h11 k (by omega) k2]) (fun k k1 k2 => by rw [g5 k (by omega), h12 k (by omega) k2]) H)
    by_cases q : k < 64 * f
    · rw [g3 k (by omega), h7 k q]
    · exact g2 k (by omega) (by omega)
theorem tz_de28 {post : Int32 → St2 → Prop} {rest : List Bool} : ∀ (n i : Nat) (pl : Int32) (a8 : Nat → Int32), i + n = 12 → tz_rd (tz_pb n ++ rest) pl a5 → (∀ k, k < i → a8 k = 12) →
    (∀ (pl : Int32) (t8 : Nat → Int32), tz_rd rest pl a5 → (∀ k, k < 12 → t8 k = 12) → ∃ k, wX_decode_53 post k 0 (nI 160) pl a1 a2 a3 a4 a5 a6 a7 t8 a9 a10 a11 a12) →
    wX_decode_28 post (n + 1) (nI i) (nI 160) pl a1 a2 a3 a4 a5 a6 a7 a8 a9 a10 a11 a12
  | 0, i, pl, a8, hi, h, h8, H => pk_le 12 i (fun _ => H pl a8 h (fun k hk => h8 k (by omega))) (fun q => absurd q (by omega))
  | n + 1, i, pl, a8, hi, h, h8, H => by
    have h' : tz_rd (tz_wb (nI 12) 5 ++ (tz_pb n ++ rest)) pl a5 := by
      rw [← List.append_assoc]
      exact h
    refine pk_le 12 i (fun q => absurd q (by omega)) (fun _ => tz_read_4 5 _ _ h' (tz_wb_len _ _) (by omega) (fun pl h5 => ?_))
    rw [tz_val_wb (by omega) (by decide)]
    exact ⟨pk_in i 12 (by omega), nm_e (nm_r (nI_1 i) (tz_de28 n (i + 1) pl _ (by omega) h5 (tz_fill (f := fun _ => 12) (nI_clamp (by omega)) h8 rfl) H))⟩
theorem tz_decode {post : Int32 → St2 → Prop} (he : tz_enc a1 a5) (h6 : a6 1 = 1) (H : ∀ (b pl : Int32) (t2 t4 t7 t8 t9 t10 t11 t12 : Nat → Int32), (∀ k, k < 256 → t2 k = a1 k) → post (bx_sum a1 256) (b, pl, a1, t2, a3, t4, a5, a6, t7, t8, t9, t10, t11, t12)) : wpX_decode post (fb, fp, a1, a2, a3, a4, a5, a6, a7, a8, a9, a10, a11, a12) 1 := by
  obtain ⟨s, c, Ps, e1, e2, e3, e4, e5, e6⟩ := he
  have hl : (tz_pb 12 ++ tz_fs c 0 Ps).length ≤ 5120 := by
    have h1 := tz_fs_len c Ps 0 e4
    rw [List.length_append, tz_pb_len]
    omega
  unfold wpX_decode
  dsimp only
  refine tz_isS1 (br_f (by decide) ⟨pk_in 1 2 (by omega), br_f (by rw [pk_cl 1, h6]; decide) (tz_open (fun b11 b12 g1 g2 => ⟨13, ?_⟩))⟩)
  refine tz_de28 12 0 (nI 0) a8 (by omega) ⟨0, rfl, tz_ws_rs e6 hl⟩ lt_0 (fun pl t8 h5 h8 => ⟨Ps.length + 1, ?_⟩)
  refine tz_de53 e3 Ps 0 pl a7 a9 a10 b11 b12 (by omega) e4 h5 (fun k hk => absurd hk (by omega)) (fun k _ hk => g1 k hk) (fun k _ hk => g2 k hk) (fun pl t7 t9 t10 t11 t12 h7 => ?_)
  refine tz_de71 h8 h7 e2 (fun t ht => ?_)
  have key : ∀ k, k < 256 → tz_pr 1 64 (tz_ad (-1) 64 t) k = a1 k := fun k hk => (tz_pa_inv ht k hk).trans (e1 k hk)
  refine tz_de104 (fun t2 h2 => tz_de140 (fun t4 => ?_))
  rw [tz_sum_c 256 key]
  exact H _ _ t2 t4 _ t8 t9 t10 t11 t12 (fun k hk => (h2 k hk).trans (key k hk))
end
end
section
/-! the frames: one pixel K put, a box inverted as far as row Y, column X -/
def tz_px (K : Nat) (low : Int32) (k : Nat) : Int32 := if k = K then low else 0
def tz_ib (f u v Y X k : Nat) : Bool := decide (k / 64 = f ∧ u ≤ k % 8 ∧ k % 8 ≤ u + 2 ∧ v ≤ k / 8 % 8 ∧ (k / 8 % 8 < Y ∨ (k / 8 % 8 = Y ∧ k % 8 < X)))
def tz_iI (f u v K : Nat) (low : Int32) (Y X c : Nat) (a : Nat → Int32) : Prop := (∀ k, a k = if tz_ib f u v Y X k then 255 - tz_px K low k else tz_px K low k) ∧ bx_sum a 256 = 255 * nI c + (if tz_ib f u v Y X K then -low else low)
theorem tz_px_e (K : Nat) (low : Int32) : tz_px K low K = low := if_pos rfl
theorem tz_px_n {K k : Nat} {low : Int32} (h : k ≠ K) : tz_px K low k = 0 := if_neg h
theorem tz_px_sum {K : Nat} {low : Int32} {a : Nat → Int32} (hK : K < 256) (h : ∀ k, a k = tz_px K low k) : bx_sum a 256 = low := by
  rw [tz_sum_c (g := upd (fun _ => 0) K low) 256 (fun j _ => h j), tz_sum_u _ _ _ _ hK, tz_sum_0]
  grind
theorem tz_iI_0 {f u v K : Nat} {low : Int32} {a : Nat → Int32} (hK : K < 256) (h : ∀ k, a k = tz_px K low k) : tz_iI f u v K low v u 0 a := by
  have e : ∀ k, tz_ib f u v v u k = false := fun k => decide_eq_false (by omega)
  refine ⟨fun k => by rw [e k, h k]; rfl, ?_⟩
  rw [e K, tz_px_sum hK h, nI_0]
  grind
theorem tz_iI_s {f u v K Y X c : Nat} {low : Int32} {a : Nat → Int32} (hf : f < 4) (h1 : u ≤ X) (h2 : X ≤ u + 2) (h3 : X < 8) (h4 : v ≤ Y) (h5 : Y < 8) (h : tz_iI f u v K low Y X c a) : tz_iI f u v K low Y (X + 1) (c + 1) (upd a (64 * f + 8 * Y + X) (255 - a (64 * f + 8 * Y + X))) := by
  have b0 : tz_ib f u v Y X (64 * f + 8 * Y + X) = false := decide_eq_false (by omega)
  have b1 : tz_ib f u v Y (X + 1) (64 * f + 8 * Y + X) = true := decide_eq_true (by omega)
  have b2 : ∀ k, k ≠ 64 * f + 8 * Y + X → tz_ib f u v Y (X + 1) k = tz_ib f u v Y X k := fun k hk => decide_eq_decide.mpr (by omega)
  have hI := h.1 (64 * f + 8 * Y + X)
  rw [b0, if_neg (by decide)] at hI
  constructor
  · intro k
    by_cases e : k = 64 * f + 8 * Y + X
    · rw [e, pk_us, b1, if_pos rfl, hI]
    · rw [pk_un e, b2 k e, h.1 k]
  · rw [tz_sum_u _ _ _ _ (by omega), h.2, hI, ← nI_1]
    by_cases e : K = 64 * f + 8 * Y + X
    · rw [e, tz_px_e, b0, b1, if_neg (by decide), if_pos rfl]
      grind
    · rw [tz_px_n (fun q => e q.symm), b2 K e]
      grind
theorem tz_iI_r {f u v K Y X c : Nat} {low : Int32} {a : Nat → Int32} (hX : X = u + 3 ∨ X = 8) (h : tz_iI f u v K low Y X c a) : tz_iI f u v K low (Y + 1) u c a := by
  have e : tz_ib f u v Y X = tz_ib f u v (Y + 1) u := funext (fun k => decide_eq_decide.mpr (by omega))
  unfold tz_iI at h
  rw [e] at h
  exact h
section
variable {fb fp : Int32} {a1 a2 a3 a4 a5 a6 a7 a8 a9 a10 a11 a12 : Nat → Int32}
theorem tz_in44 {post : Int32 → St2 → Prop} {J : Int32 → Int32 → (Nat → Int32) → (Nat → Int32) → (Nat → Int32) → (Nat → Int32) → (Nat → Int32) → (Nat → Int32) → (Nat → Int32) → (Nat → Int32) → (Nat → Int32) → (Nat → Int32) → (Nat → Int32) → (Nat → Int32) → Prop} {f u v K Y c w : Nat} {low : Int32} (hf : f < 4) (hu : u < 8) (hw : w ≤ 3) (hw2 : u + w ≤ 8) (hw3 : w = 3 ∨ u + w = 8) (h4 : v ≤ Y) (h5 : Y < 8) (hc : c < 1000) (h : tz_iI f u v K low Y u c a1) (H : ∀ t : Nat → Int32, tz_iI f u v K low (Y + 1) u (c + w) t → J (nI (c + w)) (nI (Y + 1)) t a2 a3 a4 a5 a6 a7 a8 a9 a10 a11 a12) : ∃ n, wX_invert_44 post J (nI f) (nI u) (nI v) (nI Y) fb fp n (nI c) (nI u) a1 a2 a3 a4 a5 a6 a7 a8 a9 a10 a11 a12 := by
  have e2 : nI u + 2 = nI (u + 2) := nI_add u 2
  refine pk_loop (σ := Int32 × (Nat → Int32)) (fun n i s => wX_invert_44 post J (nI f) (nI u) (nI v) (nI Y) fb fp n s.1 (nI i) s.2 a2 a3 a4 a5 a6 a7 a8 a9 a10 a11 a12) (fun i s => u ≤ i ∧ s.1 = nI (c + (i - u)) ∧ tz_iI f u v K low Y i (c + (i - u)) s.2) (u + w) u (nI c, a1) (by omega) ⟨by omega, by rw [Nat.sub_self]; rfl, by rw [Nat.sub_self]; exact h⟩
    (fun n s hs => ?_) (fun n i s hi hs hn => ?_)
  · obtain ⟨_, q1, q2⟩ := hs
    obtain ⟨s1, s2⟩ := s
    dsimp only at q1 q2 ⊢
    rw [show c + (u + w - u) = c + w by omega] at q1 q2
    have F := H s2 (tz_iI_r (by omega) q2)
    rw [q1]
    exact pk_lt (u + 2) (u + w) (fun _ => nm_r (nI_1 Y) F) (fun z => pk_le 8 (u + w) (fun _ => nm_r (nI_1 Y) F) (fun z2 => absurd z2 (by omega))) e2
  · obtain ⟨q0, q1, q2⟩ := hs
    obtain ⟨s1, s2⟩ := s
    dsimp only at q1 q2 ⊢
    refine pk_lt (u + 2) i (fun z => absurd z (by omega)) (fun z => pk_le 8 i (fun z2 => absurd z2 (by omega)) (fun _ => ?_)) e2
    refine nm_r (tz_ix f Y i) ?_
    rw [nI_clamp (by omega)]
    refine ⟨vp_in_nI (by omega) (by omega), vp_in_nI (by omega) (by omega), nm_e (nm_r (e' := nI (c + (i + 1 - u))) (by rw [q1, nI_1]; exact congrArg nI (by omega)) (nm_r (nI_1 i) (hn (_, _) ⟨by omega, rfl, ?_⟩)))⟩
    rw [show c + (i + 1 - u) = c + (i - u) + 1 by omega]
    exact tz_iI_s hf q0 (by omega) (by omega) h4 h5 q2
theorem tz_in26 {post : Int32 → St2 → Prop} {f u v K w d : Nat} {low : Int32} (hf : f < 4) (hu : u < 8) (hw : w ≤ 3) (hw2 : u + w ≤ 8) (hw3 : w = 3 ∨ u + w = 8) (hv : v < 8) (hd : d ≤ 3) (hd2 : v + d ≤ 8) (hd3 : d = 3 ∨ v + d = 8) (h : tz_iI f u v K low v u 0 a1) (H : ∀ t : Nat → Int32, tz_iI f u v K low (v + d) u (w * d) t → post (nI (w * d)) (fb, fp, t, a2, a3, a4, a5, a6, a7, a8, a9, a10, a11, a12)) : ∃ n, wX_invert_26 post (nI f) (nI u) (nI v) fb fp n 0 (nI v) a1 a2 a3 a4 a5 a6 a7 a8 a9 a10 a11 a12 := by
  have e2 : nI v + 2 = nI (v + 2) := nI_add v 2
  refine pk_loop (σ := Int32 × (Nat → Int32)) (fun n i s => wX_invert_26 post (nI f) (nI u) (nI v) fb fp n s.1 (nI i) s.2 a2 a3 a4 a5 a6 a7 a8 a9 a10 a11 a12) (fun i s => v ≤ i ∧ s.1 = nI (w * (i - v)) ∧ tz_iI f u v K low i u (w * (i - v)) s.2) (v + d) v (0, a1) (by omega) ⟨by omega, by rw [Nat.sub_self]; rfl, by rw [Nat.sub_self]; exact h⟩
    (fun n s hs => ?_) (fun n i s hi hs hn => ?_)
  · obtain ⟨_, q1, q2⟩ := hs
    obtain ⟨s1, s2⟩ := s
    dsimp only at q1 q2 ⊢
    rw [show v + d - v = d by omega] at q1 q2
    have F := H s2 q2
    rw [q1]
    exact pk_lt (v + 2) (v + d) (fun _ => F) (fun z => pk_le 8 (v + d) (fun _ => F) (fun z2 => absurd z2 (by omega))) e2
  · obtain ⟨q0, q1, q2⟩ := hs
    obtain ⟨s1, s2⟩ := s
    dsimp only at q1 q2 ⊢
    have hm : w * (i - v) ≤ 3 * 8 := Nat.mul_le_mul hw (by omega)
    refine pk_lt (v + 2) i (fun z => absurd z (by omega)) (fun z => pk_le 8 i (fun z2 => absurd z2 (by omega)) (fun _ => ?_)) e2
    rw [q1]
    refine tz_in44 hf hu hw hw2 hw3 q0 (by omega) (by omega) q2 (fun t ht => ?_)
    have e : w * (i - v) + w = w * (i + 1 - v) := by
      rw [show i + 1 - v = (i - v) + 1 by omega, Nat.mul_succ]
    rw [e] at ht ⊢
    exact hn (_, t) ⟨by omega, rfl, ht⟩
theorem tz_invert {post : Int32 → St2 → Prop} {p0 p1 p2 : Int32} {K : Nat} {low : Int32} (hK : K < 256) (h : ∀ k, a1 k = tz_px K low k) (hF : ¬ tz_Fr p0 → post (-1) (fb, fp, a1, a2, a3, a4, a5, a6, a7, a8, a9, a10, a11, a12)) (hI : tz_Fr p0 → ¬ tz_In p1 p2 → post (-2) (fb, fp, a1, a2, a3, a4, a5, a6, a7, a8, a9, a10, a11, a12))
    (H : tz_Fr p0 → tz_In p1 p2 → ∀ f u v w d : Nat, f < 4 → u < 8 → v < 8 → p0 = nI f → p1 = nI u → p2 = nI v → (u ≤ 5 ∧ w = 3 ∨ 5 < u ∧ u + w = 8) → (v ≤ 5 ∧ d = 3 ∨ 5 < v ∧ v + d = 8) → ∀ t : Nat → Int32, tz_iI f u v K low (v + d) u (w * d) t → post (nI (w * d)) (fb, fp, t, a2, a3, a4, a5, a6, a7, a8, a9, a10, a11, a12)) : wpX_invert post (fb, fp, a1, a2, a3, a4, a5, a6, a7, a8, a9, a10, a11, a12) p0 p1 p2 := by
  unfold wpX_invert
  dsimp only
  refine tz_isF (fun hf => br_f (by decide) (tz_isI (fun hi => br_f (by decide) ?_) (fun hi => br_t rfl (hI hf hi)))) (fun hf => br_t rfl (hF hf))
  obtain ⟨f, h4, ef⟩ := tz_FrN hf
  obtain ⟨u, v, hu, hv, eu, ev⟩ := tz_InN hi
  obtain ⟨w, hw⟩ : ∃ w, u ≤ 5 ∧ w = 3 ∨ 5 < u ∧ u + w = 8 := by
    by_cases q : u ≤ 5
    · exact ⟨3, Or.inl ⟨q, rfl⟩⟩
    · exact ⟨8 - u, Or.inr ⟨by omega, by omega⟩⟩
  obtain ⟨d, hd⟩ : ∃ d, v ≤ 5 ∧ d = 3 ∨ 5 < v ∧ v + d = 8 := by
    by_cases q : v ≤ 5
    · exact ⟨3, Or.inl ⟨q, rfl⟩⟩
    · exact ⟨8 - v, Or.inr ⟨by omega, by omega⟩⟩
  have HH := H hf hi f u v w d h4 hu hv ef eu ev hw hd
  subst ef eu ev
  exact tz_in26 h4 hu (by omega) (by omega) (by omega) hv (by omega) (by omega) (by omega) (tz_iI_0 hK h) HH
end
end
section
/-! flags -/
def tz_fl (P : Prop) (x : Int32) : Prop := (P ∧ x = 1) ∨ (¬ P ∧ x = 0)
theorem tz_fb {P A B : Prop} {x : Int32} (h : tz_fl P x) (f : ¬ P → A) (g : P → B) : (x = 0 → A) ∧ (¬ x = 0 → B) := by
  rcases h with ⟨q, e⟩ | ⟨q, e⟩
  · subst e; exact br_f (by decide) (g q)
  · subst e; exact br_t rfl (f q)
def tz_due (x0 x1 x2 d : Int32) (a : Nat → Int32) : Prop := tz_Fr x0 → tz_In x1 x2 → ∀ f x y : Nat, f < 4 → x < 8 → y < 8 → x0 = nI f → x1 = nI x → x2 = nI y → a (64 * f + 8 * y + x) = d
section
variable {fb fp : Int32} {a1 a2 a3 a4 a5 a6 a7 a8 a9 a10 a11 a12 : Nat → Int32}
theorem tz_415 {post : Int32 → St0 → Prop} {mc ms kc ks : Nat} {x0 x7 z0 z1 : Int32} (hz : z1 = z0) (h6 : a6 0 = 0) (he : ∀ k, k < 256 → a2 k = a1 k) (h7 : tz_fl (tz_Fr x0) x7) (H : post 1 ()) : wL_lawOf_415 post mc ms x0 x7 z0 z1 kc ks fb fp a1 a2 a3 a4 a5 a6 a7 a8 a9 a10 a11 a12 := by
  unfold wL_lawOf_415
  refine br_t hz (tz_filled h6 (br_t rfl (tz_diff (fun q => ?_) (fun q => ?_) he)))
  · exact tz_fb h7 (fun _ => br_t rfl H) (fun z => absurd z q)
  · exact tz_fb h7 (fun z => absurd q z) (fun _ => br_t rfl H)
theorem tz_371 {post : Int32 → St0 → Prop} {mc ms kc ks : Nat} {x0 x1 x2 x7 x8 x15 z0 : Int32} (he : tz_enc a1 a5) (h61 : a6 1 = 1) (h60 : a6 0 = 0) (hz : bx_sum a1 256 = z0) (h7 : tz_fl (tz_Fr x0) x7) (h8 : tz_fl (tz_In x1 x2) x8) (hd : tz_due x0 x1 x2 x15 a1) (H : post 1 ()) : wL_lawOf_371 post mc ms x0 x1 x2 x7 x8 x15 z0 kc ks fb fp a1 a2 a3 a4 a5 a6 a7 a8 a9 a10 a11 a12 := by
  unfold wL_lawOf_371
  refine tz_decode he h61 (fun b pl t2 t4 t7 t8 t9 t10 t11 t12 h2 => br_t hz (tz_out (fun q => ?_) (fun q1 q2 => ?_) (fun q1 q2 f x y hf hx hy e0 e1 e2 => ?_)))
  · exact tz_fb h7 (fun _ => tz_415 rfl h60 h2 h7 H) (fun z => absurd z q)
  · exact tz_fb h7 (fun z => absurd q1 z) (fun _ => tz_fb h8 (fun _ => tz_415 rfl h60 h2 h7 H) (fun z => absurd z q2))
  · exact tz_fb h7 (fun z => absurd q1 z) (fun _ => tz_fb h8 (fun z => absurd q2 z) (fun _ => tz_415 (by rw [h2 _ (by omega)]; exact hd q1 q2 f x y hf hx hy e0 e1 e2) h60 h2 h7 H))
theorem tz_316 {post : Int32 → St0 → Prop} {mc ms kc ks : Nat} {x0 x1 x2 x7 x8 x9 x13 x14 x15 z0 z1 : Int32} (hz : z1 = z0) (h1 : ∀ k, k < 256 → tz_by (a1 k)) (h3 : ∀ j, j < 12 → a3 j = 12) (h60 : a6 0 = 0) (h7 : tz_fl (tz_Fr x0) x7) (h8 : tz_fl (tz_In x1 x2) x8) (hd : tz_due x0 x1 x2 x15 a1) (hs0 : ¬ tz_Fr x0 → bx_sum a1 256 = 0) (hsA : tz_Fr x0 → x14 = 0 → bx_sum a1 256 = 255 * x13 + x9) (hsB : tz_Fr x0 → ¬ x14 = 0 → bx_sum a1 256 = 255 * x13 + -x9) (H : post 1 ()) : wL_lawOf_316 post mc ms x0 x1 x2 x7 x8 x9 x13 x14 x15 z0 z1 kc ks fb fp a1 a2 a3 a4 a5 a6 a7 a8 a9 a10 a11 a12 := by
  unfold wL_lawOf_316
  refine br_t hz (tz_encode h1 h3 (fun b pl t5 t7 t8 t9 t10 t11 t12 he => br_t rfl (tz_encode2 (br_t rfl ?_))))
  have h60' : upd a6 1 1 0 = 0 := (pk_un (by decide)).trans h60
  exact tz_fb h7 (fun q => tz_371 he pk_us h60' (hs0 q) h7 h8 hd H) (fun q => br_c (fun c => tz_371 he pk_us h60' (hsA q c) h7 h8 hd H) (fun c => tz_371 he pk_us h60' (hsB q c) h7 h8 hd H))
theorem tz_285 {post : Int32 → St0 → Prop} {mc ms kc ks : Nat} {x0 x1 x2 x7 x8 x9 x13 x14 z0 : Int32} (h1 : ∀ k, k < 256 → tz_by (a1 k)) (h3 : ∀ j, j < 12 → a3 j = 12) (h60 : a6 0 = 0) (h7 : tz_fl (tz_Fr x0) x7) (h8 : tz_fl (tz_In x1 x2) x8) (hd : tz_due x0 x1 x2 z0 a1) (hs0 : ¬ tz_Fr x0 → bx_sum a1 256 = 0) (hsA : tz_Fr x0 → x14 = 0 → bx_sum a1 256 = 255 * x13 + x9) (hsB : tz_Fr x0 → ¬ x14 = 0 → bx_sum a1 256 = 255 * x13 + -x9) (H : post 1 ()) : wL_lawOf_285 post mc ms x0 x1 x2 x7 x8 x9 x13 x14 z0 kc ks fb fp a1 a2 a3 a4 a5 a6 a7 a8 a9 a10 a11 a12 := by
  unfold wL_lawOf_285
  refine tz_pixel (fun q => ?_) (fun q1 q2 => ?_) (fun q1 q2 f x y hf hx hy e0 e1 e2 => ?_)
  · exact tz_fb h7 (fun _ => tz_316 rfl h1 h3 h60 h7 h8 hd hs0 hsA hsB H) (fun z => absurd z q)
  · exact tz_fb h7 (fun z => absurd q1 z) (fun _ => tz_fb h8 (fun _ => tz_316 rfl h1 h3 h60 h7 h8 hd hs0 hsA hsB H) (fun z => absurd z q2))
  · exact tz_fb h7 (fun z => absurd q1 z) (fun _ => tz_fb h8 (fun z => absurd q2 z) (fun _ => tz_316 (hd q1 q2 f x y hf hx hy e0 e1 e2) h1 h3 h60 h7 h8 hd hs0 hsA hsB H))
theorem tz_267_0 {post : Int32 → St0 → Prop} {mc ms kc ks : Nat} {x0 x1 x2 x7 x8 x9 x13 : Int32} (h1 : ∀ k, k < 256 → tz_by (a1 k)) (h3 : ∀ j, j < 12 → a3 j = 12) (h60 : a6 0 = 0) (h7 : tz_fl (tz_Fr x0) x7) (h8 : tz_fl (tz_In x1 x2) x8) (hd : tz_due x0 x1 x2 x9 a1) (hs0 : ¬ tz_Fr x0 → bx_sum a1 256 = 0) (hsA : tz_Fr x0 → bx_sum a1 256 = 255 * x13 + x9) (H : post 1 ()) : wL_lawOf_267 post mc ms x0 x1 x2 x7 x8 x9 x13 0 kc ks fb fp a1 a2 a3 a4 a5 a6 a7 a8 a9 a10 a11 a12 := by
  unfold wL_lawOf_267
  exact br_t rfl (tz_285 h1 h3 h60 h7 h8 hd hs0 (fun q _ => hsA q) (fun _ z => absurd rfl z) H)
theorem tz_267_1 {post : Int32 → St0 → Prop} {mc ms kc ks : Nat} {x0 x1 x2 x7 x8 x9 x13 : Int32} (h1 : ∀ k, k < 256 → tz_by (a1 k)) (h3 : ∀ j, j < 12 → a3 j = 12) (h60 : a6 0 = 0) (h7 : tz_fl (tz_Fr x0) x7) (h8 : tz_fl (tz_In x1 x2) x8) (hd : tz_due x0 x1 x2 (255 - x9) a1) (hs0 : ¬ tz_Fr x0 → bx_sum a1 256 = 0) (hsB : tz_Fr x0 → bx_sum a1 256 = 255 * x13 + -x9) (H : post 1 ()) : wL_lawOf_267 post mc ms x0 x1 x2 x7 x8 x9 x13 1 kc ks fb fp a1 a2 a3 a4 a5 a6 a7 a8 a9 a10 a11 a12 := by
  unfold wL_lawOf_267
  exact br_f (by decide) (tz_285 h1 h3 h60 h7 h8 hd hs0 (fun _ z => absurd z (by decide)) (fun q _ => hsB q) H)
end
def tz_IN (x1 x2 x4 x5 : Int32) : Prop := ¬ x1 < x4 ∧ ¬ 2 < x1 - x4 ∧ ¬ x2 < x5 ∧ ¬ 2 < x2 - x5
theorem tz_IN1 {x u : Nat} (hx : x < 8) (hu : u < 8) : (¬ nI x < nI u ∧ ¬ 2 < nI x - nI u) ↔ (u ≤ x ∧ x ≤ u + 2) := by
  rw [nI_ltI (by omega) (by omega)]
  by_cases q : u ≤ x
  · rw [pk_sub q, show (2 : Int32) = nI 2 from rfl, nI_ltI (by omega) (by omega)]
    omega
  · constructor
    · intro z
      exact absurd z.1 (by omega)
    · intro z
      exact absurd z.1 q
theorem tz_INn {x y u v : Nat} (hx : x < 8) (hy : y < 8) (hu : u < 8) (hv : v < 8) : tz_IN (nI x) (nI y) (nI u) (nI v) ↔ (u ≤ x ∧ x ≤ u + 2 ∧ v ≤ y ∧ y ≤ v + 2) := by
  have e1 := tz_IN1 hx hu
  have e2 := tz_IN1 hy hv
  unfold tz_IN
  constructor
  · rintro ⟨c1, c2, c3, c4⟩
    have d1 := e1.mp ⟨c1, c2⟩
    have d2 := e2.mp ⟨c3, c4⟩
    exact ⟨d1.1, d1.2, d2.1, d2.2⟩
  · rintro ⟨c1, c2, c3, c4⟩
    have d1 := e1.mpr ⟨c1, c2⟩
    have d2 := e2.mpr ⟨c3, c4⟩
    exact ⟨d1.1, d1.2, d2.1, d2.2⟩
theorem tz_ibK {f u v d x y : Nat} (hx : x < 8) (hy : y < 8) (hd : v ≤ 5 ∧ d = 3 ∨ 5 < v ∧ v + d = 8) : tz_ib f u v (v + d) u (64 * f + 8 * y + x) = decide (u ≤ x ∧ x ≤ u + 2 ∧ v ≤ y ∧ y ≤ v + 2) := decide_eq_decide.mpr (by omega)
theorem tz_by0 : tz_by 0 := by
  unfold tz_by
  rw [tz_0]
  omega
theorem tz_by_px {K k : Nat} {x : Int32} (h : tz_by x) : tz_by (tz_px K x k) := by
  unfold tz_px
  by_cases e : k = K
  · rw [if_pos e]; exact h
  · rw [if_neg e]; exact tz_by0
theorem tz_by_inv {x : Int32} (h : tz_by x) : tz_by (255 - x) := by
  unfold tz_by at *
  rw [tz_sub (by rw [tz_255]; omega) (by rw [tz_255]; omega), tz_255]
  omega
section
variable {fb fp : Int32} {a1 a2 a3 a4 a5 a6 a7 a8 a9 a10 a11 a12 : Nat → Int32}
theorem tz_219 {post : Int32 → St0 → Prop} {mc ms kc ks : Nat} {x0 x1 x2 x4 x5 x7 x8 x9 x10 x13 z0 z1 : Int32} (hz : z1 = z0) (h8 : tz_fl (tz_In x1 x2) x8) (h10 : tz_fl (tz_In x4 x5) x10) (hN : ¬ (tz_In x1 x2 ∧ tz_In x4 x5 ∧ tz_IN x1 x2 x4 x5) → wL_lawOf_267 post mc ms x0 x1 x2 x7 x8 x9 x13 0 kc ks fb fp a1 a2 a3 a4 a5 a6 a7 a8 a9 a10 a11 a12) (hI : tz_In x1 x2 → tz_In x4 x5 → tz_IN x1 x2 x4 x5 → wL_lawOf_267 post mc ms x0 x1 x2 x7 x8 x9 x13 1 kc ks fb fp a1 a2 a3 a4 a5 a6 a7 a8 a9 a10 a11 a12) : wL_lawOf_219 post mc ms x0 x1 x2 x4 x5 x7 x8 x9 x10 x13 z0 z1 kc ks fb fp a1 a2 a3 a4 a5 a6 a7 a8 a9 a10 a11 a12 := by
  unfold wL_lawOf_219
  unfold wL_lawOf_266
  exact br_t hz (tz_fb h8 (fun q => hN (fun z => q z.1)) (fun q8 => tz_fb h10 (fun q => hN (fun z => q z.2.1)) (fun q10 => br_c (fun c => hN (fun z => z.2.2.1 c)) (fun c1 => br_c (fun c => hN (fun z => z.2.2.2.1 c)) (fun c2 => br_c (fun c => hN (fun z => z.2.2.2.2.1 c)) (fun c3 => br_c (fun c => hN (fun z => z.2.2.2.2.2 c)) (fun c4 => hI q8 q10 ⟨c1, c2, c3, c4⟩)))))))
/-- from the inversion on: one pixel K put, its value x9; the count due is z0 -/
theorem tz_186 {post : Int32 → St0 → Prop} {mc ms kc ks : Nat} {x0 x1 x2 x4 x5 x7 x8 x9 x10 z0 : Int32} {K : Nat} (h7 : tz_fl (tz_Fr x0) x7) (h8 : tz_fl (tz_In x1 x2) x8) (h10 : tz_fl (tz_In x4 x5) x10) (hK : K < 256) (hpx : ∀ k, a1 k = tz_px K x9 k) (hby : tz_by x9) (hKe : tz_Fr x0 → tz_In x1 x2 → ∀ f x y : Nat, f < 4 → x < 8 → y < 8 → x0 = nI f → x1 = nI x → x2 = nI y → K = 64 * f + 8 * y + x) (h90 : ¬ (tz_Fr x0 ∧ tz_In x1 x2) → x9 = 0) (h3 : ∀ j, j < 12 → a3 j = 12) (h60 : a6 0 = 0) (hc0 : ¬ tz_In x4 x5 → z0 = 0) (hc1 : tz_In x4 x5 → ∀ u v w d : Nat, u < 8 → v < 8 → x4 = nI u → x5 = nI v → (u ≤ 5 ∧ w = 3 ∨ 5 < u ∧ u + w = 8) → (v ≤ 5 ∧ d = 3 ∨ 5 < v ∧ v + d = 8) → nI (w * d) = z0) (H : post 1 ()) : wL_lawOf_186 post mc ms x0 x1 x2 x4 x5 x7 x8 x9 x10 z0 kc ks fb fp a1 a2 a3 a4 a5 a6 a7 a8 a9 a10 a11 a12 := by
  unfold wL_lawOf_186
  have hsum := tz_px_sum hK hpx
  have hb1 : ∀ k, k < 256 → tz_by (a1 k) := fun k _ => by rw [hpx k]; exact tz_by_px hby
  refine tz_invert hK hpx (fun q => ?_) (fun q1 q2 => ?_) (fun q1 q2 f u v w d hf hu hv e0 e4 e5 hw hd t ht => ?_)
  · have z9 : x9 = 0 := h90 (fun z => q z.1)
    refine tz_fb h7 (fun _ => tz_219 rfl h8 h10 (fun _ => ?_) (fun _ _ _ => ?_)) (fun z => absurd z q)
    · exact tz_267_0 hb1 h3 h60 h7 h8 (fun z => absurd z q) (fun _ => by rw [hsum, z9]) (fun z => absurd z q) H
    · exact tz_267_1 hb1 h3 h60 h7 h8 (fun z => absurd z q) (fun _ => by rw [hsum, z9]) (fun z => absurd z q) H
  · refine tz_fb h7 (fun z => absurd q1 z) (fun _ => tz_fb h10 (fun _ => tz_219 rfl h8 h10 (fun _ => ?_) (fun _ z _ => absurd z q2)) (fun z => absurd z q2))
    refine tz_267_0 hb1 h3 h60 h7 h8 (fun c1 c2 f x y hf hx hy e0 e1 e2 => ?_) (fun z => absurd q1 z) (fun _ => ?_) H
    · rw [← hKe c1 c2 f x y hf hx hy e0 e1 e2, hpx K, tz_px_e]
    · rw [hsum, hc0 q2]
      grind
  · have hcnt := hc1 q2 u v w d hu hv e4 e5 hw hd
    have hbt : ∀ k, k < 256 → tz_by (t k) := fun k _ => by
      rw [ht.1 k]
      cases tz_ib f u v (v + d) u k
      · rw [if_neg (by decide)]; exact tz_by_px hby
      · rw [if_pos rfl]; exact tz_by_inv (tz_by_px hby)
    have hst := ht.2
    rw [hcnt] at hst
    have hib : tz_In x1 x2 → (tz_ib f u v (v + d) u K = true ↔ tz_IN x1 x2 x4 x5) := by
      intro c
      obtain ⟨x, y, hx, hy, e1, e2⟩ := tz_InN c
      rw [hKe q1 c f x y hf hx hy e0 e1 e2, tz_ibK hx hy hd, e1, e2, e4, e5, tz_INn hx hy hu hv, decide_eq_true_iff]
    refine tz_fb h7 (fun z => absurd q1 z) (fun _ => tz_fb h10 (fun z => absurd q2 z) (fun _ => tz_219 hcnt h8 h10 (fun hn => ?_) (fun i8 i10 iI => ?_)))
    · have hff : tz_In x1 x2 → tz_ib f u v (v + d) u K = false := fun c => by
        cases q : tz_ib f u v (v + d) u K
        · rfl
        · exact absurd ⟨c, q2, (hib c).mp q⟩ hn
      refine tz_267_0 hbt h3 h60 h7 h8 (fun c1 c2 f' x y hf' hx hy e0' e1 e2 => ?_) (fun z => absurd q1 z) (fun _ => ?_) H
      · rw [← hKe c1 c2 f' x y hf' hx hy e0' e1 e2, ht.1 K, hff c2, if_neg (by decide), tz_px_e]
      · rw [hst]
        by_cases c : tz_In x1 x2
        · rw [hff c, if_neg (by decide)]
        · rw [h90 (fun z => c z.2)]
          cases tz_ib f u v (v + d) u K
          · rfl
          · rfl
    · have htt := (hib i8).mpr iI
      refine tz_267_1 hbt h3 h60 h7 h8 (fun c1 c2 f' x y hf' hx hy e0' e1 e2 => ?_) (fun z => absurd q1 z) (fun _ => ?_) H
      · rw [← hKe c1 c2 f' x y hf' hx hy e0' e1 e2, ht.1 K, htt, if_pos rfl, tz_px_e]
      · rw [hst, htt, if_pos rfl]
end
end
section
/-! how wide the box is -/
theorem tz_w3 {x : Int32} (h : x ≤ 5) {u w : Nat} (hu : u < 8) (e : x = nI u) (hw : u ≤ 5 ∧ w = 3 ∨ 5 < u ∧ u + w = 8) : (3 : Int32) = nI w := by
  rw [e, show (5 : Int32) = nI 5 from rfl, nI_leI (by omega) (by omega)] at h
  rw [show w = 3 by omega]
  rfl
theorem tz_w8 {x : Int32} (h : ¬ x ≤ 5) {u w : Nat} (hu : u < 8) (e : x = nI u) (hw : u ≤ 5 ∧ w = 3 ∨ 5 < u ∧ u + w = 8) : 8 - x = nI w := by
  rw [e, show (5 : Int32) = nI 5 from rfl, nI_leI (by omega) (by omega)] at h
  rw [e, show (8 : Int32) = nI 8 from rfl, pk_sub (by omega)]
  exact congrArg nI (by omega)
section
variable {fb fp : Int32} {a1 a2 a3 a4 a5 a6 a7 a8 a9 a10 a11 a12 : Nat → Int32}
theorem tz_136 {post : Int32 → St0 → Prop} {mc ms kc ks : Nat} {x0 x1 x2 x4 x5 x7 x8 x9 x10 : Int32} (h10 : tz_fl (tz_In x4 x5) x10)
    (G : ∀ z0 : Int32, (¬ tz_In x4 x5 → z0 = 0) → (tz_In x4 x5 → ∀ u v w d : Nat, u < 8 → v < 8 → x4 = nI u → x5 = nI v → (u ≤ 5 ∧ w = 3 ∨ 5 < u ∧ u + w = 8) → (v ≤ 5 ∧ d = 3 ∨ 5 < v ∧ v + d = 8) → nI (w * d) = z0) → wL_lawOf_186 post mc ms x0 x1 x2 x4 x5 x7 x8 x9 x10 z0 kc ks fb fp a1 a2 a3 a4 a5 a6 a7 a8 a9 a10 a11 a12) :
    wL_lawOf_136 post mc ms x0 x1 x2 x4 x5 x7 x8 x9 x10 kc ks fb fp a1 a2 a3 a4 a5 a6 a7 a8 a9 a10 a11 a12 := by
  have K : ∀ W D : Int32, (∀ u w : Nat, u < 8 → x4 = nI u → (u ≤ 5 ∧ w = 3 ∨ 5 < u ∧ u + w = 8) → W = nI w) → (∀ v d : Nat, v < 8 → x5 = nI v → (v ≤ 5 ∧ d = 3 ∨ 5 < v ∧ v + d = 8) → D = nI d) → wL_lawOf_170 post mc ms x0 x1 x2 x4 x5 x7 x8 x9 x10 W D kc ks fb fp a1 a2 a3 a4 a5 a6 a7 a8 a9 a10 a11 a12 := by
    intro W D hW hD
    exact tz_fb h10 (fun q => G 0 (fun _ => rfl) (fun z => absurd z q)) (fun q => G _ (fun z => absurd q z) (fun _ u v w d hu hv e4 e5 hw hd => by rw [hW u w hu e4 hw, hD v d hv e5 hd, pk_mul]))
  exact br_c (fun c => br_c (fun c2 => K _ _ (fun u w hu e hw => tz_w3 c hu e hw) (fun v d hv e hd => tz_w3 c2 hv e hd)) (fun c2 => K _ _ (fun u w hu e hw => tz_w3 c hu e hw) (fun v d hv e hd => tz_w8 c2 hv e hd))) (fun c => br_c (fun c2 => K _ _ (fun u w hu e hw => tz_w8 c hu e hw) (fun v d hv e hd => tz_w3 c2 hv e hd)) (fun c2 => K _ _ (fun u w hu e hw => tz_w8 c hu e hw) (fun v d hv e hd => tz_w8 c2 hv e hd)))
theorem tz_102 {post : Int32 → St0 → Prop} {mc ms kc ks : Nat} {x0 x1 x2 x4 x5 x7 x8 x9 z0 z1 : Int32} (hz : z1 = z0) (G : ∀ x10 : Int32, tz_fl (tz_In x4 x5) x10 → wL_lawOf_136 post mc ms x0 x1 x2 x4 x5 x7 x8 x9 x10 kc ks fb fp a1 a2 a3 a4 a5 a6 a7 a8 a9 a10 a11 a12) : wL_lawOf_102 post mc ms x0 x1 x2 x4 x5 x7 x8 x9 z0 z1 kc ks fb fp a1 a2 a3 a4 a5 a6 a7 a8 a9 a10 a11 a12 := by
  unfold wL_lawOf_102
  unfold wL_lawOf_135
  exact br_t hz (br_c (fun c => G 0 (Or.inr ⟨fun z => z.1 c, rfl⟩)) (fun c1 => br_c (fun c => G 0 (Or.inr ⟨fun z => z.2.1 c, rfl⟩)) (fun c2 => br_c (fun c => G 0 (Or.inr ⟨fun z => z.2.2.1 c, rfl⟩)) (fun c3 => br_c (fun c => G 0 (Or.inr ⟨fun z => z.2.2.2 c, rfl⟩)) (fun c4 => G 1 (Or.inl ⟨⟨c1, c2, c3, c4⟩, rfl⟩))))))
theorem tz_71 {post : Int32 → St0 → Prop} {mc ms kc ks : Nat} {x0 x1 x2 x3 x4 x5 x7 x8 z0 : Int32} (h7 : tz_fl (tz_Fr x0) x7) (h8 : tz_fl (tz_In x1 x2) x8) (hz1 : tz_Fr x0 → tz_In x1 x2 → z0 = x3 &&& 255) (hz0 : ¬ (tz_Fr x0 ∧ tz_In x1 x2) → z0 = 0) (h1 : ∀ k, a1 k = 0) (h3 : ∀ j, j < 12 → a3 j = 12) (h60 : a6 0 = 0) (H : post 1 ()) : wL_lawOf_71 post mc ms x0 x1 x2 x3 x4 x5 x7 x8 z0 kc ks fb fp a1 a2 a3 a4 a5 a6 a7 a8 a9 a10 a11 a12 := by
  unfold wL_lawOf_71
  have N : ¬ (tz_Fr x0 ∧ tz_In x1 x2) → ∀ y : Int32, wL_lawOf_102 post mc ms x0 x1 x2 x4 x5 x7 x8 z0 y y kc ks fb fp a1 a2 a3 a4 a5 a6 a7 a8 a9 a10 a11 a12 := by
    intro q y
    refine tz_102 rfl (fun x10 h10 => tz_136 h10 (fun c hc0 hc1 => tz_186 (K := 0) h7 h8 h10 (by omega) (fun k => ?_) ?_ (fun z1 z2 => absurd ⟨z1, z2⟩ q) hz0 h3 h60 hc0 hc1 H))
    · rw [h1 k, hz0 q]
      unfold tz_px
      by_cases e : k = 0
      · rw [if_pos e]
      · rw [if_neg e]
    · rw [hz0 q]
      exact tz_by0
  refine tz_put (fun q => ?_) (fun q1 q2 => ?_) (fun q1 q2 f x y hf hx hy e0 e1 e2 => ?_)
  · exact tz_fb h7 (fun _ => N (fun z => q z.1) _) (fun z => absurd z q)
  · exact tz_fb h7 (fun z => absurd q1 z) (fun _ => tz_fb h8 (fun _ => N (fun z => q2 z.2) _) (fun z => absurd z q2))
  · refine tz_fb h7 (fun z => absurd q1 z) (fun _ => tz_fb h8 (fun z => absurd q2 z) (fun _ => ?_))
    refine tz_102 (h1 _) (fun x10 h10 => tz_136 h10 (fun c hc0 hc1 => tz_186 (K := 64 * f + 8 * y + x) h7 h8 h10 (by omega) (fun k => ?_) ?_ (fun z1 z2 f' x' y' hf' hx' hy' e0' e1' e2' => ?_) hz0 h3 h60 hc0 hc1 H))
    · rw [hz1 q1 q2]
      unfold tz_px
      by_cases e : k = 64 * f + 8 * y + x
      · rw [if_pos e, e, pk_us]
      · rw [if_neg e, pk_un e, h1 k]
    · rw [hz1 q1 q2]
      obtain ⟨j, hj, e⟩ := pk_andE x3 (m := 255) 8 (by decide +kernel)
      rw [e]
      unfold tz_by
      rw [nI_toInt (by omega)]
      omega
    · have i0 : f = f' := (nI_eq (by omega) (by omega)).mp (e0.symm.trans e0')
      have i1 : x = x' := (nI_eq (by omega) (by omega)).mp (e1.symm.trans e1')
      have i2 : y = y' := (nI_eq (by omega) (by omega)).mp (e2.symm.trans e2')
      rw [i0, i1, i2]
theorem tz_50 {post : Int32 → St0 → Prop} {mc ms kc ks : Nat} {x0 x1 x2 x3 x4 x5 x7 z0 : Int32} (h7 : tz_fl (tz_Fr x0) x7) (h8 : tz_fl (tz_In x1 x2) z0) (h1 : ∀ k, a1 k = 0) (h3 : ∀ j, j < 12 → a3 j = 12) (h60 : a6 0 = 0) (H : post 1 ()) : wL_lawOf_50 post mc ms x0 x1 x2 x3 x4 x5 x7 z0 kc ks fb fp a1 a2 a3 a4 a5 a6 a7 a8 a9 a10 a11 a12 := by
  unfold wL_lawOf_50
  unfold wL_lawOf_70
  exact tz_fb h7 (fun q => tz_71 h7 h8 (fun z => absurd z q) (fun _ => rfl) h1 h3 h60 H) (fun q => tz_fb h8 (fun q2 => tz_71 h7 h8 (fun _ z => absurd z q2) (fun _ => rfl) h1 h3 h60 H) (fun q2 => tz_71 h7 h8 (fun _ _ => rfl) (fun z => absurd ⟨q, q2⟩ z) h1 h3 h60 H))
theorem tz_23 {post : Int32 → St0 → Prop} {mc ms kc ks : Nat} {x0 x1 x2 x3 x4 x5 z0 : Int32} (h7 : tz_fl (tz_Fr x0) z0) (h1 : ∀ k, a1 k = 0) (h3 : ∀ j, j < 12 → a3 j = 12) (h60 : a6 0 = 0) (H : post 1 ()) : wL_lawOf_23 post mc ms x0 x1 x2 x3 x4 x5 z0 kc ks fb fp a1 a2 a3 a4 a5 a6 a7 a8 a9 a10 a11 a12 := by
  unfold wL_lawOf_23
  unfold wL_lawOf_49
  exact br_c (fun c => tz_50 h7 (Or.inr ⟨fun z => z.1 c, rfl⟩) h1 h3 h60 H) (fun c1 => br_c (fun c => tz_50 h7 (Or.inr ⟨fun z => z.2.1 c, rfl⟩) h1 h3 h60 H) (fun c2 => br_c (fun c => tz_50 h7 (Or.inr ⟨fun z => z.2.2.1 c, rfl⟩) h1 h3 h60 H) (fun c3 => br_c (fun c => tz_50 h7 (Or.inr ⟨fun z => z.2.2.2 c, rfl⟩) h1 h3 h60 H) (fun c4 => tz_50 h7 (Or.inl ⟨⟨c1, c2, c3, c4⟩, rfl⟩) h1 h3 h60 H))))
end
theorem tz_lawOf {post : Int32 → St0 → Prop} {p0 p1 p2 p3 p4 p5 : Int32} (H : post 1 ()) : wpL_lawOf post 13 1972 () p0 p1 p2 p3 p4 p5 := by
  unfold wpL_lawOf
  unfold wL_lawOf_22
  refine ⟨by decide, by decide, 12, 1958, by decide, by decide, tz_init (fun b3 b4 h3 => ?_)⟩
  exact br_c (fun c => tz_23 (Or.inr ⟨fun z => z.1 c, rfl⟩) (fun _ => rfl) h3 rfl H) (fun c1 => br_c (fun c => tz_23 (Or.inr ⟨fun z => z.2 c, rfl⟩) (fun _ => rfl) h3 rfl H) (fun c2 => tz_23 (Or.inl ⟨⟨c1, c2⟩, rfl⟩) (fun _ => rfl) h3 rfl H))
theorem tz_cell {post : Int32 → Prop} {L : Nat} {xs : Nat → Int32} {x : Int32} (hL : L ≤ 6) (i : Nat) (hi : i < 6) (H : ∀ r, post r) (e : x = nI i := by rfl) : wpL_cellAt post L xs () x := by
  subst e
  exact pk_le L i (fun _ => H 0) (fun q => ⟨pk_in i L q, H _⟩)
end
section
theorem i_vc (xs : Nat → Int32) (L : Nat) (hL : L ≤ 6) : wpL_law (fun r => r = 1) L xs := by
  unfold wpL_law
  exact tz_cell hL 0 (by omega) (fun _ => tz_cell hL 1 (by omega) (fun _ => tz_cell hL 2 (by omega) (fun _ => tz_cell hL 3 (by omega) (fun _ => tz_cell hL 4 (by omega) (fun _ => tz_cell hL 5 (by omega) (fun _ => ⟨13, 1972, by decide, by decide, tz_lawOf rfl⟩))))))
end
