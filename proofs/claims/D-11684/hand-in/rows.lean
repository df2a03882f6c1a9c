section
/-! ===== bits of an int ===== -/
def tj_b (x : Int32) (i : Nat) : Bool := x.toBitVec.getLsbD i
theorem tj_ext {x y : Int32} (h : ∀ i, i < 32 → tj_b x i = tj_b y i) : x = y := Int32.toBitVec_inj.mp (BitVec.eq_of_getLsbD_eq (fun i hi => h i hi))
theorem tj_or (x y : Int32) (i : Nat) : tj_b (x ||| y) i = (tj_b x i || tj_b y i) := by unfold tj_b; rw [Int32.toBitVec_or, BitVec.getLsbD_or]
theorem tj_and (x y : Int32) (i : Nat) : tj_b (x &&& y) i = (tj_b x i && tj_b y i) := by unfold tj_b; rw [Int32.toBitVec_and, BitVec.getLsbD_and]
theorem tj_xor (x y : Int32) (i : Nat) : tj_b (x ^^^ y) i = (tj_b x i ^^ tj_b y i) := by unfold tj_b; rw [Int32.toBitVec_xor, BitVec.getLsbD_xor]
theorem tj_m1 : ∀ i, i < 32 → tj_b (-1) i = true := by decide +kernel
theorem tj_0 (i : Nat) : tj_b 0 i = false := BitVec.getLsbD_zero
theorem tj_not (x : Int32) {i : Nat} (hi : i < 32) : tj_b (x ^^^ (-1)) i = !tj_b x i := by
  rw [tj_xor, tj_m1 i hi]
  cases tj_b x i <;> rfl
theorem tj_sl : ∀ n, n < 32 → ((nI n &&& 31).toBitVec.smod 32).toNat = n := by decide +kernel
theorem tj_sshr (n : Nat) (hn : n < 32) (x : Int32) {i : Nat} (hi : i < 32) : tj_b (x >>> (nI n &&& 31)) i = if n + i < 32 then tj_b x (n + i) else tj_b x 31 := by
  unfold tj_b
  rw [Int32.toBitVec_shiftRight]
  show (x.toBitVec.sshiftRight ((nI n &&& 31).toBitVec.smod 32).toNat).getLsbD i = _
  rw [tj_sl n hn, BitVec.getLsbD_sshiftRight, BitVec.msb_eq_getLsbD_last]
  simp [hi]
theorem tj_b1 : ∀ i, i < 32 → tj_b 1 i = decide (i = 0) := by decide +kernel
theorem tj_one (y : Int32) : y &&& 1 = if tj_b y 0 = true then 1 else 0 := by
  apply tj_ext
  intro i hi
  rw [tj_and, tj_b1 i hi]
  by_cases e : i = 0
  · subst e
    cases h : tj_b y 0
    · rw [if_neg (by decide)]; rfl
    · rw [if_pos rfl]; rfl
  · rw [decide_eq_false e, Bool.and_false]
    split
    · rw [tj_b1 i hi, decide_eq_false e]
    · rw [tj_0]
theorem tj_bit (x : Int32) {k : Nat} (hk : k < 32) : (x >>> (nI k &&& 31)) &&& 1 = if tj_b x k = true then 1 else 0 := by
  rw [tj_one]
  have e : tj_b (x >>> (nI k &&& 31)) 0 = tj_b x k := by
    rw [tj_sshr k hk x (by decide), Nat.add_zero, if_pos hk]
  rw [e]
theorem tj_b0 (x : Int32) {k : Nat} (hk : k < 32) : ((x >>> (nI k &&& 31)) &&& 1) = 0 ↔ tj_b x k = false := by
  rw [tj_bit x hk]
  cases tj_b x k
  · exact ⟨fun _ => rfl, fun _ => rfl⟩
  · exact ⟨fun z => absurd z (by decide), fun z => absurd z (by decide)⟩
theorem tj_bo (x : Int32) {k : Nat} (hk : k < 32) : ((x >>> (nI k &&& 31)) &&& 1) = 1 ↔ tj_b x k = true := by
  rw [tj_bit x hk]
  cases tj_b x k
  · exact ⟨fun z => absurd z (by decide), fun z => absurd z (by decide)⟩
  · exact ⟨fun _ => rfl, fun _ => rfl⟩
theorem tj_shl1 : ∀ k, k < 32 → ∀ i, i < 32 → tj_b ((1 : Int32) <<< (nI k &&& 31)) i = decide (i = k) := by decide +kernel
theorem tj_shlN : ∀ k, k < 32 → (1 : Int32) <<< (nI k &&& 31) = nI (2 ^ k) := by decide +kernel
theorem tj_nI (n : Nat) {k : Nat} (hk : k < 32) : tj_b (nI n) k = n.testBit k := by
  show (BitVec.ofNat 32 n).getLsbD k = _
  rw [BitVec.getLsbD_ofNat]
  simp [hk]
theorem tj_nor (a b : Nat) : nI a ||| nI b = nI (a ||| b) := by
  apply tj_ext
  intro i hi
  rw [tj_or, tj_nI a hi, tj_nI b hi, tj_nI _ hi, Nat.testBit_or]
theorem tj_nand (a b : Nat) : nI a &&& nI b = nI (a &&& b) := by
  apply tj_ext
  intro i hi
  rw [tj_and, tj_nI a hi, tj_nI b hi, tj_nI _ hi, Nat.testBit_and]
theorem tj_and0 (x : Int32) {k : Nat} (hk : k < 32) : (x &&& ((1 : Int32) <<< (nI k &&& 31))) = 0 ↔ tj_b x k = false := by
  constructor
  · intro h
    have t := congrArg (fun y => tj_b y k) h
    simp only [tj_and, tj_shl1 k hk k hk, tj_0] at t
    simpa using t
  · intro h
    apply tj_ext
    intro i hi
    rw [tj_and, tj_shl1 k hk i hi, tj_0]
    by_cases e : i = k
    · subst e; rw [h]; rfl
    · rw [decide_eq_false e, Bool.and_false]
/-! ===== bits of a long ===== -/
def tj_h (x : Int64) (i : Nat) : Bool := x.toBitVec.getLsbD i
theorem tj_h_0 (i : Nat) : tj_h 0 i = false := BitVec.getLsbD_zero
theorem tj_un {n : Nat} (h : n < 2 ^ 64) : (UInt64.ofNat n).toNat = n := Nat.mod_eq_of_lt h
theorem tj_cu : ∀ k, k < 64 → ((nI k).toInt64.toUInt64 &&& Int64.toUInt64 63) = UInt64.ofNat k := by decide +kernel
theorem tj_hbit {w : Int64} {s : UInt64} {j : Nat} (hj : j < 64) (hs : s.toNat = j) : ((w.toUInt64 >>> s).toInt64 &&& 1) = 0 ↔ w.toBitVec.getLsbD j = false := by
  have e : (w.toUInt64 >>> s).toInt64.toBitVec = w.toBitVec >>> j := by
    apply BitVec.eq_of_toNat_eq
    show (w.toUInt64 >>> s).toNat = _
    rw [UInt64.toNat_shiftRight, hs, Nat.mod_eq_of_lt hj, BitVec.toNat_ushiftRight]
    rfl
  rw [← Int64.toBitVec_inj, Int64.toBitVec_and, e]
  show w.toBitVec >>> j &&& 1#64 = 0#64 ↔ _
  constructor
  · intro h
    have t := congrArg (fun x => x.getLsbD 0) h
    simpa using t
  · intro h
    apply BitVec.eq_of_getLsbD_eq
    intro i hi
    cases i with
    | zero => simp [h]
    | succ i => simp
theorem tj_h0 (w : Int64) {k : Nat} (hk : k < 64) : ((w.toUInt64 >>> ((nI k).toInt64.toUInt64 &&& Int64.toUInt64 63)).toInt64 &&& 1) = 0 ↔ tj_h w k = false := by
  rw [tj_cu k hk]
  exact tj_hbit hk (tj_un (by omega))
theorem tj_hs : ∀ k, k < 64 → ((1 : Int64) <<< ((nI k).toInt64 &&& 63)).toBitVec = BitVec.twoPow 64 k := by decide +kernel
theorem tj_hor (w : Int64) {k : Nat} (hk : k < 64) (i : Nat) : tj_h (w ||| ((1 : Int64) <<< ((nI k).toInt64 &&& 63))) i = (tj_h w i || decide (i = k)) := by
  unfold tj_h
  rw [Int64.toBitVec_or, tj_hs k hk, BitVec.getLsbD_or, BitVec.getLsbD_twoPow]
  by_cases e : i = k
  · subst e; simp [hk]
  · simp [e, show ¬ k = i from fun z => e z.symm]
theorem tj_hclr (w : Int64) {k : Nat} (hk : k < 64) {i : Nat} (hi : i < 64) : tj_h (w &&& (((1 : Int64) <<< ((nI k).toInt64 &&& 63)) ^^^ (-1))) i = (tj_h w i && !decide (i = k)) := by
  have ha : (-1 : Int64).toBitVec = BitVec.allOnes 64 := by decide
  unfold tj_h
  rw [Int64.toBitVec_and, Int64.toBitVec_xor, tj_hs k hk, ha, BitVec.getLsbD_and, BitVec.getLsbD_xor, BitVec.getLsbD_twoPow, BitVec.getLsbD_allOnes]
  by_cases e : i = k
  · subst e; simp [hk]
  · simp [e, hi, show ¬ k = i from fun z => e z.symm]
/-! ===== indices ===== -/
theorem tj_ix (k a b : Nat) : nI k * nI a + nI b = nI (k * a + b) := by rw [pk_mul, nI_add]
theorem tj_ix2 (k a l b c : Nat) : nI k * nI a + nI l * nI b + nI c = nI (k * a + l * b + c) := by rw [pk_mul, pk_mul, nI_add, nI_add]
theorem tj_sh6 {a : Nat} (h : a < 2 ^ 31) : nI a >>> ((6 : Int32) &&& 31) = nI (a / 64) := pk_shrN h _ 6 (by decide)
theorem tj_m63 {a : Nat} (h : a < 2 ^ 31) : nI a &&& 63 = nI (a % 64) := pk_andN (by omega) 6 (by decide)
theorem tj_i8 : ∀ n, n < 128 → (nI n).toInt8.toInt32 = nI n := by decide +kernel
theorem tj_v8 {n : Nat} (h : n < 128) : vp_nar .byte (nI n) = nI n := by rw [vp_nar_byte, tj_i8 n h]
/-! ===== sets of numbers as words ===== -/
def tj_in (f : Nat → Int64) (a : Nat) : Bool := tj_h (f (a / 64)) (a % 64)
theorem tj_in_put (f : Nat → Int64) (a b : Nat) : tj_in (vp_updL f (a / 64) (f (a / 64) ||| ((1 : Int64) <<< ((nI (a % 64)).toInt64 &&& 63)))) b = (tj_in f b || decide (b = a)) := by
  unfold tj_in
  have h1 : a % 64 < 64 := Nat.mod_lt _ (by decide)
  by_cases e : b / 64 = a / 64
  · rw [e, pk_uLs, tj_hor _ h1]
    by_cases e2 : b % 64 = a % 64
    · rw [decide_eq_true e2, decide_eq_true (show b = a by omega)]
    · rw [decide_eq_false e2, decide_eq_false (show ¬ b = a by omega)]
  · rw [pk_uLn e, decide_eq_false (show ¬ b = a from fun z => e (by rw [z])), Bool.or_false]
/-! ===== counting ===== -/
def tj_cnt (p : Nat → Bool) : Nat → Nat
  | 0 => 0
  | n + 1 => tj_cnt p n + (if p n = true then 1 else 0)
theorem tj_cnt_t {p : Nat → Bool} {n : Nat} (h : p n = true) : tj_cnt p (n + 1) = tj_cnt p n + 1 := by
  show tj_cnt p n + (if p n = true then 1 else 0) = _
  rw [if_pos h]
theorem tj_cnt_f {p : Nat → Bool} {n : Nat} (h : p n = false) : tj_cnt p (n + 1) = tj_cnt p n := by
  show tj_cnt p n + (if p n = true then 1 else 0) = _
  rw [if_neg (by rw [h]; decide)]
  rfl
theorem tj_cnt_le (p : Nat → Bool) (n : Nat) : tj_cnt p n ≤ n := by
  induction n with
  | zero => exact Nat.le_refl 0
  | succ n ih =>
    cases h : p n
    · rw [tj_cnt_f h]; omega
    · rw [tj_cnt_t h]; omega
theorem tj_cnt_mono (p : Nat → Bool) {m n : Nat} (h : m ≤ n) : tj_cnt p m ≤ tj_cnt p n := by
  induction n with
  | zero => rw [show m = 0 by omega]; exact Nat.le_refl _
  | succ n ih =>
    by_cases e : m = n + 1
    · rw [e]; exact Nat.le_refl _
    · have := ih (by omega)
      cases h : p n
      · rw [tj_cnt_f h]; exact this
      · rw [tj_cnt_t h]; omega
theorem tj_cnt_lt {p : Nat → Bool} {m n : Nat} (h : m < n) (hp : p m = true) : tj_cnt p m < tj_cnt p n := by
  have h1 := tj_cnt_t hp
  have h2 := tj_cnt_mono p (show m + 1 ≤ n from h)
  omega
theorem tj_cnt_congr {p q : Nat → Bool} {n : Nat} (h : ∀ j, j < n → p j = q j) : tj_cnt p n = tj_cnt q n := by
  induction n with
  | zero => rfl
  | succ n ih =>
    show tj_cnt p n + (if p n = true then 1 else 0) = tj_cnt q n + (if q n = true then 1 else 0)
    rw [ih (fun j hj => h j (by omega)), h n (by omega)]
theorem tj_cnt_sub {p q : Nat → Bool} {n : Nat} (h : ∀ j, j < n → p j = true → q j = true) : tj_cnt p n ≤ tj_cnt q n := by
  induction n with
  | zero => exact Nat.le_refl _
  | succ n ih =>
    have := ih (fun j hj => h j (by omega))
    cases hp : p n
    · rw [tj_cnt_f hp]
      exact Nat.le_trans this (tj_cnt_mono q (by omega))
    · rw [tj_cnt_t hp, tj_cnt_t (h n (by omega) hp)]
      omega
theorem tj_cnt_tail {p : Nat → Bool} {m n : Nat} (hm : m ≤ n) (h : ∀ j, m ≤ j → j < n → p j = false) : tj_cnt p n = tj_cnt p m := by
  induction n with
  | zero => rw [show m = 0 by omega]
  | succ n ih =>
    by_cases e : m = n + 1
    · rw [e]
    · rw [tj_cnt_f (h n (by omega) (by omega))]
      exact ih (by omega) (fun j h1 h2 => h j h1 (by omega))
theorem tj_cnt_front (p : Nat → Bool) (n : Nat) : tj_cnt p (n + 1) = (if p 0 = true then 1 else 0) + tj_cnt (fun i => p (i + 1)) n := by
  induction n with
  | zero =>
    show 0 + (if p 0 = true then 1 else 0) = (if p 0 = true then 1 else 0) + 0
    omega
  | succ n ih =>
    show tj_cnt p (n + 1) + (if p (n + 1) = true then 1 else 0) = (if p 0 = true then 1 else 0) + (tj_cnt (fun i => p (i + 1)) n + (if p (n + 1) = true then 1 else 0))
    rw [ih]
    omega
theorem tj_cnt_zero {p : Nat → Bool} {n : Nat} (h : ∀ j, j < n → p j = false) : tj_cnt p n = 0 := by
  rw [tj_cnt_tail (Nat.zero_le n) (fun j _ h2 => h j h2)]
  rfl
/-! ===== ones of a number ===== -/
def tj_pc : Nat → Nat → Nat
  | 0, _ => 0
  | n + 1, x => x % 2 + tj_pc n (x / 2)
theorem tj_pc_0 (n : Nat) : tj_pc n 0 = 0 := by
  induction n with
  | zero => rfl
  | succ n ih =>
    show 0 % 2 + tj_pc n (0 / 2) = 0
    rw [Nat.zero_div, ih]
theorem tj_pc_cnt (n : Nat) : ∀ x, tj_pc n x = tj_cnt x.testBit n := by
  induction n with
  | zero => exact fun x => rfl
  | succ n ih =>
    intro x
    rw [tj_cnt_front]
    show x % 2 + tj_pc n (x / 2) = _
    rw [ih (x / 2), Nat.testBit_zero]
    have e : tj_cnt (fun i => x.testBit (i + 1)) n = tj_cnt (x / 2).testBit n := tj_cnt_congr (fun j _ => Nat.testBit_succ x j)
    rw [e]
    rcases Nat.mod_two_eq_zero_or_one x with h | h
    · rw [h]; simp
    · rw [h]; simp
theorem tj_pc_step (n : Nat) : ∀ x, x ≠ 0 → x < 2 ^ n → tj_pc n (x &&& (x - 1)) + 1 = tj_pc n x := by
  induction n with
  | zero => intro x h0 h1; omega
  | succ n ih =>
    intro x h0 h1
    rw [Nat.pow_succ] at h1
    show (x &&& (x - 1)) % 2 + tj_pc n ((x &&& (x - 1)) / 2) + 1 = x % 2 + tj_pc n (x / 2)
    have e0 : (x &&& (x - 1)) % 2 = 0 := by
      have : ¬ (x &&& (x - 1)) % 2 = 1 := by
        rw [Nat.and_mod_two_eq_one]
        omega
      omega
    rw [e0, Nat.and_div_two]
    rcases Nat.mod_two_eq_zero_or_one x with h | h
    · have e1 : (x - 1) / 2 = x / 2 - 1 := by omega
      have := ih (x / 2) (by omega) (by omega)
      rw [e1, h]
      omega
    · have e1 : (x - 1) / 2 = x / 2 := by omega
      rw [e1, Nat.and_self, h]
      omega
/-! ===== the code of an answer: the digits of the asked variables ===== -/
def tj_code (w : Nat) (t : Nat → Nat) : Nat → Nat
  | 0 => 0
  | v + 1 => if w.testBit v = true then 5 * tj_code w t v + t v else tj_code w t v
theorem tj_code_t {w : Nat} {t : Nat → Nat} {v : Nat} (h : w.testBit v = true) : tj_code w t (v + 1) = 5 * tj_code w t v + t v := by
  show (if w.testBit v = true then 5 * tj_code w t v + t v else tj_code w t v) = _
  rw [if_pos h]
theorem tj_code_f {w : Nat} {t : Nat → Nat} {v : Nat} (h : w.testBit v = false) : tj_code w t (v + 1) = tj_code w t v := by
  show (if w.testBit v = true then 5 * tj_code w t v + t v else tj_code w t v) = _
  rw [if_neg (by rw [h]; decide)]
theorem tj_code_lt {w : Nat} {t : Nat → Nat} (n : Nat) (h : ∀ v, v < n → t v < 5) : tj_code w t n < 5 ^ n := by
  induction n with
  | zero => exact Nat.one_pos
  | succ n ih =>
    have h1 := ih (fun v hv => h v (by omega))
    have h2 := h n (by omega)
    rw [Nat.pow_succ]
    cases e : w.testBit n
    · rw [tj_code_f e]; omega
    · rw [tj_code_t e]; omega
theorem tj_code_congr {w : Nat} {t t' : Nat → Nat} (n : Nat) (h : ∀ v, v < n → w.testBit v = true → t v = t' v) : tj_code w t n = tj_code w t' n := by
  induction n with
  | zero => rfl
  | succ n ih =>
    have h1 := ih (fun v hv => h v (by omega))
    cases e : w.testBit n
    · rw [tj_code_f e, tj_code_f e, h1]
    · rw [tj_code_t e, tj_code_t e, h1, h n (by omega) e]
end
section
section
variable {lv qu ai st fo an bo tc oc ac : Int32} {a1 : Nat → Int64} {a2 : Nat → Int32} {a3 : Nat → Int32} {a4 : Nat → Int32} {a5 : Nat → Int32} {a6 : Nat → Int32} {a7 : Nat → Int32} {a8 : Nat → Int32} {a9 : Nat → Int32} {a10 : Nat → Int64} {a11 : Nat → Int64} {a12 : Nat → Int64} {a13 : Nat → Int32} {a14 : Nat → Int32} {a15 : Nat → Int32} {a16 : Nat → Int32} {a17 : Nat → Int32} {a18 : Nat → Int32} {a19 : Nat → Int32} {a20 : Nat → Int32} {a21 : Nat → Int32} {a22 : Nat → Int32} {a23 : Nat → Int32} {a24 : Nat → Int32} {a25 : Nat → Int32}
theorem tj_nf {x : Bool} (h : ¬ x = false) : x = true := by cases x <;> first | rfl | exact absurd rfl h
theorem tj_nt {x : Bool} (h : ¬ x = true) : x = false := by cases x <;> first | rfl | exact absurd rfl h
theorem tw_columnsOf {post : Int32 → Prop} {r : Int32} (hr : r = 0) (h : post 2) : wpX_columnsOf post (lv, qu, ai, st, fo, an, bo, tc, oc, ac, a1, a2, a3, a4, a5, a6, a7, a8, a9, a10, a11, a12, a13, a14, a15, a16, a17, a18, a19, a20, a21, a22, a23, a24, a25) r := by
  subst hr
  exact br_f (by decide) h
theorem tw_col0 {post : Int32 → Prop} {r x c : Int32} {row : Nat} (hr : r = 0) (hx : x = nI row) (hc : c = 0) (hrow : row < 25) (h : post (nI (row / 5))) : wpX_columnOf post (lv, qu, ai, st, fo, an, bo, tc, oc, ac, a1, a2, a3, a4, a5, a6, a7, a8, a9, a10, a11, a12, a13, a14, a15, a16, a17, a18, a19, a20, a21, a22, a23, a24, a25) r x c := by
  subst hr hx hc
  unfold wpX_columnOf
  refine tw_columnsOf rfl (nm_r (show ((2 : Int32) - 1) - 0 = nI 1 by decide) ⟨2, ?_⟩)
  refine br_f (by decide) ⟨by decide, nm_r (pk_div (a := row) (d := 5) (by omega) (by decide) (by decide)) (nm_e (br_t (by decide) ⟨by decide, ?_⟩))⟩
  refine ek_v (P := post) (pk_rem (a := row / 5) (d := 5) (by omega) (by decide) (by decide)) ?_
  rw [show row / 5 % 5 = row / 5 by omega]
  exact h
theorem tw_col1 {post : Int32 → Prop} {r x c : Int32} {row : Nat} (hr : r = 0) (hx : x = nI row) (hc : c = 1) (hrow : row < 25) (h : post (nI (row % 5))) : wpX_columnOf post (lv, qu, ai, st, fo, an, bo, tc, oc, ac, a1, a2, a3, a4, a5, a6, a7, a8, a9, a10, a11, a12, a13, a14, a15, a16, a17, a18, a19, a20, a21, a22, a23, a24, a25) r x c := by
  subst hr hx hc
  unfold wpX_columnOf
  refine tw_columnsOf rfl (nm_r (show ((2 : Int32) - 1) - 1 = nI 0 by decide) ⟨1, ?_⟩)
  refine br_t (by decide) ⟨by decide, ?_⟩
  exact ek_v (P := post) (pk_rem (a := row) (d := 5) (by omega) (by decide) (by decide)) h
theorem tw_isQ {post : Int32 → Prop} {x : Int32} {q : Nat} (hx : x = nI q) (hq : q < 2) (h : post 1) : wpX_isQuestion post (lv, qu, ai, st, fo, an, bo, tc, oc, ac, a1, a2, a3, a4, a5, a6, a7, a8, a9, a10, a11, a12, a13, a14, a15, a16, a17, a18, a19, a20, a21, a22, a23, a24, a25) x := by
  subst hx
  rcases (show q = 0 ∨ q = 1 by omega) with e | e
  · subst e; exact br_t (by decide) h
  · subst e; exact br_f (by decide) (br_t (by decide) h)
theorem tw_isRow {post : Int32 → Prop} {x y : Int32} {r row : Nat} (hx : x = nI r) (hy : y = nI row) (hr : r < 3) (hrow : row < 2 ^ 31) (h1 : row < (if r = 2 then 125 else 25) → post 1) (h0 : ¬ row < (if r = 2 then 125 else 25) → post 0) : wpX_isRow post (lv, qu, ai, st, fo, an, bo, tc, oc, ac, a1, a2, a3, a4, a5, a6, a7, a8, a9, a10, a11, a12, a13, a14, a15, a16, a17, a18, a19, a20, a21, a22, a23, a24, a25) x y := by
  subst hx hy
  refine br_f (nI_pos (by omega)) (br_f (nI_nlt (a := 2) (by omega) (by decide)) (br_f (nI_pos hrow) ?_))
  refine pk_eq r 2 (fun e => ?_) (fun e => ?_)
  · rw [if_pos e] at h1 h0
    exact pk_le 125 row (fun z => h0 (by omega)) (fun z => h1 z)
  · rw [if_neg e] at h1 h0
    exact pk_le 25 row (fun z => h0 (by omega)) (fun z => h1 z)
theorem tw_isRow1 {post : Int32 → Prop} {x y : Int32} {row : Nat} (hx : x = 0) (hy : y = nI row) (hrow : row < 25) (h1 : post 1) : wpX_isRow post (lv, qu, ai, st, fo, an, bo, tc, oc, ac, a1, a2, a3, a4, a5, a6, a7, a8, a9, a10, a11, a12, a13, a14, a15, a16, a17, a18, a19, a20, a21, a22, a23, a24, a25) x y :=
  tw_isRow (r := 0) hx hy (by decide) (by omega) (fun _ => h1) (fun z => absurd hrow z)
theorem tw_bix {f r row : Nat} (h : row < 2 ^ 31) : (nI f + 2 * nI r) + (nI row >>> ((6 : Int32) &&& 31)) = nI (f + 2 * r + row / 64) := by
  rw [tj_sh6 h]
  show nI f + nI 2 * nI r + nI (row / 64) = _
  rw [pk_mul, nI_add, nI_add]
theorem tw_hasRow {post : Int32 → Prop} {x y z : Int32} {f r row : Nat} (hx : x = nI f) (hy : y = nI r) (hz : z = nI row) (hb : f + 2 * r + row / 64 < 12) (hrow : row < 2 ^ 31) (H0 : tj_h (a1 (f + 2 * r + row / 64)) (row % 64) = false → post 0) (H1 : tj_h (a1 (f + 2 * r + row / 64)) (row % 64) = true → post 1) : wpX_hasRow post (lv, qu, ai, st, fo, an, bo, tc, oc, ac, a1, a2, a3, a4, a5, a6, a7, a8, a9, a10, a11, a12, a13, a14, a15, a16, a17, a18, a19, a20, a21, a22, a23, a24, a25) x y z := by
  subst hx hy hz
  unfold wpX_hasRow
  rw [tw_bix hrow, tj_m63 hrow, nI_clamp (by omega)]
  exact ⟨vp_in_nI hb (by decide), ek_if (tj_h0 _ (Nat.mod_lt _ (by decide))) H0 (fun g => H1 (tj_nf g))⟩
theorem tw_hasRow0 {post : Int32 → Prop} {x y z : Int32} {f row : Nat} (hx : x = nI f) (hy : y = 0) (hz : z = nI row) (hb : f < 12) (hrow : row < 25) (H0 : tj_h (a1 f) row = false → post 0) (H1 : tj_h (a1 f) row = true → post 1) : wpX_hasRow post (lv, qu, ai, st, fo, an, bo, tc, oc, ac, a1, a2, a3, a4, a5, a6, a7, a8, a9, a10, a11, a12, a13, a14, a15, a16, a17, a18, a19, a20, a21, a22, a23, a24, a25) x y z := by
  have e1 : f + 2 * 0 + row / 64 = f := by omega
  have e2 : row % 64 = row := by omega
  refine tw_hasRow (r := 0) hx hy hz (by omega) (by omega) ?_ ?_
  · rw [e1, e2]; exact H0
  · rw [e1, e2]; exact H1
theorem tw_setRow {post : St2 → Prop} {x y z : Int32} {f row : Nat} (hx : x = nI f) (hy : y = 0) (hz : z = nI row) (hb : f < 12) (hrow : row < 25) (H : post (lv, qu, ai, st, fo, an, bo, tc, oc, ac, (vp_updL a1 f (a1 f ||| ((1 : Int64) <<< ((nI row).toInt64 &&& 63)))), a2, a3, a4, a5, a6, a7, a8, a9, a10, a11, a12, a13, a14, a15, a16, a17, a18, a19, a20, a21, a22, a23, a24, a25)) : wpX_setRow post (lv, qu, ai, st, fo, an, bo, tc, oc, ac, a1, a2, a3, a4, a5, a6, a7, a8, a9, a10, a11, a12, a13, a14, a15, a16, a17, a18, a19, a20, a21, a22, a23, a24, a25) x y z := by
  subst hx hy hz
  have e0 : (nI f + 2 * 0) + (nI row >>> ((6 : Int32) &&& 31)) = nI f := by
    have t := tw_bix (f := f) (r := 0) (row := row) (by omega)
    rw [show f + 2 * 0 + row / 64 = f by omega] at t
    exact t
  have e1 : nI row &&& 63 = nI row := by rw [tj_m63 (by omega), Nat.mod_eq_of_lt (by omega)]
  unfold wpX_setRow
  rw [e0, e1, nI_clamp (by omega)]
  exact ⟨vp_in_nI hb (by decide), vp_in_nI hb (by decide), nm_e H⟩
theorem tw_pw : ∀ n, n < 5 → ((1 : Int32) <<< (nI n &&& 31)) - 1 = nI (2 ^ n - 1) := by decide +kernel
theorem tw_allAtoms {post : Int32 → Prop} {x : Int32} {q n : Nat} (hx : x = nI q) (hq : q < 2) (ha : a3 q = nI n) (hn : n < 5) (h : post (nI (2 ^ n - 1))) : wpX_allAtoms post (lv, qu, ai, st, fo, an, bo, tc, oc, ac, a1, a2, a3, a4, a5, a6, a7, a8, a9, a10, a11, a12, a13, a14, a15, a16, a17, a18, a19, a20, a21, a22, a23, a24, a25) x := by
  subst hx
  refine ⟨vp_in_nI hq (by decide), ek_v (P := post) ?_ h⟩
  rw [nI_clamp (by omega), ha]
  exact tw_pw n hn
/-! ===== an atom: relation 0, two different variables ===== -/
def tj_AT (a4 a5 : Nat → Int32) (k p q : Nat) : Prop := a4 k = 0 ∧ a5 (3 * k) = nI p ∧ a5 (3 * k + 1) = nI q ∧ a5 (3 * k + 2) = -1 ∧ p < 5 ∧ q < 5 ∧ p ≠ q
theorem tw_c3 (k c : Nat) (hk : k < 8) (hc : c < 3) : ((3 : Int32) * nI k + nI c).toNatClampNeg = 3 * k + c := pk_cl (3 * k + c) (tj_ix 3 k c) (by omega)
theorem tw_vAtom {post : Int32 → Prop} {x : Int32} {k p q : Nat} (hx : x = nI k) (hk : k < 8) (hat : tj_AT a4 a5 k p q) (h : post (nI (2 ^ p ||| 2 ^ q))) : wpX_variablesOfAtom post (lv, qu, ai, st, fo, an, bo, tc, oc, ac, a1, a2, a3, a4, a5, a6, a7, a8, a9, a10, a11, a12, a13, a14, a15, a16, a17, a18, a19, a20, a21, a22, a23, a24, a25) x := by
  subst hx
  obtain ⟨-, h0, h1, h2, hp, hq, -⟩ := hat
  have e0 : a5 ((3 : Int32) * nI k + nI 0).toNatClampNeg = nI p := by rw [tw_c3 k 0 hk (by decide)]; exact h0
  have e1 : a5 ((3 : Int32) * nI k + nI 1).toNatClampNeg = nI q := by rw [tw_c3 k 1 hk (by decide)]; exact h1
  have e2 : a5 ((3 : Int32) * nI k + nI 2).toNatClampNeg = -1 := by rw [tw_c3 k 2 hk (by decide)]; exact h2
  have i0 : ∀ c, c < 3 → vp_in ((3 : Int32) * nI k + nI c) 24 := fun c hc => pk_in (3 * k + c) 24 (by omega) (tj_ix 3 k c)
  refine ⟨4, ?_⟩
  refine br_f (by decide) ⟨i0 0 (by decide), br_f (by show ¬ a5 ((3 : Int32) * nI k + nI 0).toNatClampNeg < 0; rw [e0]; exact nI_pos (by omega)) ⟨i0 0 (by decide), ?_⟩⟩
  refine nm_r (show (0 : Int32) ||| ((1 : Int32) <<< (a5 ((3 : Int32) * nI k + nI 0).toNatClampNeg &&& 31)) = nI (2 ^ p) by rw [e0, tj_shlN p (by omega)]; exact (tj_nor 0 (2 ^ p)).trans (by rw [Nat.zero_or])) (nm_r (show (0 : Int32) + 1 = nI 1 by decide) ?_)
  refine br_f (by decide) ⟨i0 1 (by decide), br_f (by rw [e1]; exact nI_pos (by omega)) ⟨i0 1 (by decide), ?_⟩⟩
  refine nm_r (show nI (2 ^ p) ||| ((1 : Int32) <<< (a5 ((3 : Int32) * nI k + nI 1).toNatClampNeg &&& 31)) = nI (2 ^ p ||| 2 ^ q) by rw [e1, tj_shlN q (by omega), tj_nor]) (nm_r (show nI 1 + 1 = nI 2 by decide) ?_)
  refine br_f (by decide) ⟨i0 2 (by decide), br_t (by rw [e2]; decide) (nm_r (show nI 2 + 1 = nI 3 by decide) ?_)⟩
  exact br_t (by decide) h
/-- the variables of a set m of atoms, vm i those of atom i -/
def tj_vs (m : Nat) (vm : Nat → Nat) : Nat → Nat
  | 0 => 0
  | i + 1 => if m.testBit i = true then tj_vs m vm i ||| vm i else tj_vs m vm i
/-- the atoms of a set m of a question, with their variables -/
def tj_QA (a4 a5 : Nat → Int32) (q m : Nat) (P Q : Nat → Nat) : Prop := ∀ i, i < 4 → m.testBit i = true → tj_AT a4 a5 (4 * q + i) (P i) (Q i)
theorem tw_vOf {post : Int32 → Prop} {x y : Int32} {q m : Nat} {P Q : Nat → Nat} (hx : x = nI q) (hy : y = nI m) (hq : q < 2) (hqa : tj_QA a4 a5 q m P Q) (h : post (nI (tj_vs m (fun i => 2 ^ P i ||| 2 ^ Q i) 4))) : wpX_variablesOf post (lv, qu, ai, st, fo, an, bo, tc, oc, ac, a1, a2, a3, a4, a5, a6, a7, a8, a9, a10, a11, a12, a13, a14, a15, a16, a17, a18, a19, a20, a21, a22, a23, a24, a25) x y := by
  subst hx hy
  refine pk_loop (fun n i s => wX_variablesOf_5 post (nI q) (nI m) lv qu ai st fo an bo tc oc ac a1 a2 a3 a4 a5 a6 a7 a8 a9 a10 a11 a12 a13 a14 a15 a16 a17 a18 a19 a20 a21 a22 a23 a24 a25 n s (nI i)) (fun i s => s = nI (tj_vs m (fun i => 2 ^ P i ||| 2 ^ Q i) i)) 4 0 0 (by omega) rfl ?_ ?_
  · intro n s hs
    subst hs
    exact br_t (by decide) h
  · intro n i s hi hs hw
    subst hs
    refine br_f (nI_ge (b := 4) hi (by decide)) (ek_if (tj_b0 (nI m) (show i < 32 by omega)) (fun z => ?_) (fun z => ?_))
    · rw [tj_nI m (by omega)] at z
      refine nm_r (nI_1 i) (hw _ ?_)
      show _ = nI (if m.testBit i = true then _ else _)
      rw [if_neg (by rw [z]; decide)]
    · have z' := tj_nf z
      rw [tj_nI m (by omega)] at z'
      refine tw_vAtom (k := 4 * q + i) (tj_ix 4 q i) (by omega) (hqa i hi z') (nm_r (tj_nor _ _) (nm_r (nI_1 i) (hw _ ?_)))
      show _ = nI (if m.testBit i = true then _ else _)
      rw [if_pos z']
theorem tw_isWhole_t {post : Int32 → Prop} {x y : Int32} {q m w th : Nat} {P Q : Nat → Nat} (hx : x = nI q) (hy : y = nI m) (hq : q < 2) (hm0 : m ≠ 0) (hm : m < 16) (hqa : tj_QA a4 a5 q m P Q) (hw : a6 q = nI w) (ht : tj_vs m (fun i => 2 ^ P i ||| 2 ^ Q i) 4 = th) (hz : (nI w &&& (nI th ^^^ (-1))) = 0) (h : post 1) : wpX_isWhole post (lv, qu, ai, st, fo, an, bo, tc, oc, ac, a1, a2, a3, a4, a5, a6, a7, a8, a9, a10, a11, a12, a13, a14, a15, a16, a17, a18, a19, a20, a21, a22, a23, a24, a25) x y := by
  subst hx hy ht
  unfold wpX_isWhole
  refine tw_vOf rfl rfl hq hqa ?_
  refine br_f (nI_ne0 (by omega) (by omega)) ⟨vp_in_nI hq (by decide), br_t ?_ h⟩
  rw [nI_clamp (by omega), hw]
  exact hz
theorem tw_isWhole_f {post : Int32 → Prop} {x y : Int32} {q m w th : Nat} {P Q : Nat → Nat} (hx : x = nI q) (hy : y = nI m) (hq : q < 2) (hm0 : m ≠ 0) (hm : m < 16) (hqa : tj_QA a4 a5 q m P Q) (hw : a6 q = nI w) (ht : tj_vs m (fun i => 2 ^ P i ||| 2 ^ Q i) 4 = th) (hz : ¬ (nI w &&& (nI th ^^^ (-1))) = 0) (h : post 0) : wpX_isWhole post (lv, qu, ai, st, fo, an, bo, tc, oc, ac, a1, a2, a3, a4, a5, a6, a7, a8, a9, a10, a11, a12, a13, a14, a15, a16, a17, a18, a19, a20, a21, a22, a23, a24, a25) x y := by
  subst hx hy ht
  unfold wpX_isWhole
  refine tw_vOf rfl rfl hq hqa ?_
  refine br_f (nI_ne0 (by omega) (by omega)) ⟨vp_in_nI hq (by decide), br_f ?_ h⟩
  rw [nI_clamp (by omega), hw]
  exact hz
theorem tw_pw1 : ∀ n, n < 5 → 0 < n → 2 ^ n - 1 ≠ 0 ∧ 2 ^ n - 1 < 16 := by decide
theorem tw_whole_t {post : Int32 → Prop} {x : Int32} {q n w th : Nat} {P Q : Nat → Nat} (hx : x = nI q) (hq : q < 2) (hn0 : 0 < n) (hn : n < 5) (ha : a3 q = nI n) (hqa : tj_QA a4 a5 q (2 ^ n - 1) P Q) (hw : a6 q = nI w) (ht : tj_vs (2 ^ n - 1) (fun i => 2 ^ P i ||| 2 ^ Q i) 4 = th) (hz : (nI w &&& (nI th ^^^ (-1))) = 0) (h : post 1) : wpX_whole post (lv, qu, ai, st, fo, an, bo, tc, oc, ac, a1, a2, a3, a4, a5, a6, a7, a8, a9, a10, a11, a12, a13, a14, a15, a16, a17, a18, a19, a20, a21, a22, a23, a24, a25) x := by
  subst hx
  unfold wpX_whole
  refine tw_isQ rfl hq (br_f (by decide) (tw_allAtoms rfl hq ha hn ?_))
  exact tw_isWhole_t rfl rfl hq (tw_pw1 n hn hn0).1 (tw_pw1 n hn hn0).2 hqa hw ht hz ⟨by rfl, h⟩
theorem tw_whole_f {post : Int32 → Prop} {x : Int32} {q n w th : Nat} {P Q : Nat → Nat} (hx : x = nI q) (hq : q < 2) (hn0 : 0 < n) (hn : n < 5) (ha : a3 q = nI n) (hqa : tj_QA a4 a5 q (2 ^ n - 1) P Q) (hw : a6 q = nI w) (ht : tj_vs (2 ^ n - 1) (fun i => 2 ^ P i ||| 2 ^ Q i) 4 = th) (hz : ¬ (nI w &&& (nI th ^^^ (-1))) = 0) (h : post 0) : wpX_whole post (lv, qu, ai, st, fo, an, bo, tc, oc, ac, a1, a2, a3, a4, a5, a6, a7, a8, a9, a10, a11, a12, a13, a14, a15, a16, a17, a18, a19, a20, a21, a22, a23, a24, a25) x := by
  subst hx
  unfold wpX_whole
  refine tw_isQ rfl hq (br_f (by decide) (tw_allAtoms rfl hq ha hn ?_))
  exact tw_isWhole_f rfl rfl hq (tw_pw1 n hn hn0).1 (tw_pw1 n hn hn0).2 hqa hw ht hz ⟨by rfl, h⟩
theorem tw_fits {post : Int32 → Prop} {x y z : Int32} {k p q : Nat} (hx : x = nI k) (hy : y = 0) (hk : k < 8) (hat : tj_AT a4 a5 k p q) (h : post 1) : wpX_fitsAtom post (lv, qu, ai, st, fo, an, bo, tc, oc, ac, a1, a2, a3, a4, a5, a6, a7, a8, a9, a10, a11, a12, a13, a14, a15, a16, a17, a18, a19, a20, a21, a22, a23, a24, a25) x y z := by
  subst hx hy
  obtain ⟨-, h0, h1, h2, hp, hq, hne⟩ := hat
  refine ⟨1 + 1, ?_⟩
  unfold wX_fitsAtom_3
  refine tw_columnsOf rfl (br_f (by decide) ⟨2, ?_⟩)
  refine br_f (by decide) ⟨pk_in (3 * k + 1) 24 (by omega) (tj_ix 3 k 1), pk_in (3 * k + 0) 24 (by omega) (tj_ix 3 k 0), br_f ?_ (nm_r (show (0 : Int32) + 1 = nI 1 by decide) ?_)⟩
  · show ¬ a5 ((3 : Int32) * nI k + nI 1).toNatClampNeg = a5 ((3 : Int32) * nI k + nI 0).toNatClampNeg
    rw [tw_c3 k 1 hk (by decide), tw_c3 k 0 hk (by decide)]
    show ¬ a5 (3 * k + 1) = a5 (3 * k)
    rw [h0, h1, nI_eq (by omega) (by omega)]
    omega
  · refine br_t (by decide) (nm_r (show (1 : Int32) + 1 = nI 2 by decide) ?_)
    unfold wX_fitsAtom_3
    exact tw_columnsOf rfl (br_t (by decide) h)
/-! ===== the value of one variable in a row ===== -/
theorem tw_key {post : Int32 → Prop} {x y z : Int32} {k p q row v : Nat} (hx : x = nI k) (hy : y = nI row) (hz : z = (1 : Int32) <<< (nI v &&& 31)) (hk : k < 8) (hrow : row < 25) (hat : tj_AT a4 a5 k p q) (hv : v = p ∨ v = q) (H : post (nI (if v = p then row / 5 else row % 5))) : wpX_keyOfRow post (lv, qu, ai, st, fo, an, bo, tc, oc, ac, a1, a2, a3, a4, a5, a6, a7, a8, a9, a10, a11, a12, a13, a14, a15, a16, a17, a18, a19, a20, a21, a22, a23, a24, a25) x y z := by
  subst hx hy
  have hat' := hat
  obtain ⟨h4, h0, h1, h2, hp, hq, hne⟩ := hat'
  have hv5 : v < 5 := by omega
  have e4 : a4 (nI k).toNatClampNeg = 0 := by rw [nI_clamp (by omega)]; exact h4
  have e0 : a5 ((3 : Int32) * nI k + nI 0).toNatClampNeg = nI p := by rw [tw_c3 k 0 hk (by decide)]; exact h0
  have e1 : a5 ((3 : Int32) * nI k + nI 1).toNatClampNeg = nI q := by rw [tw_c3 k 1 hk (by decide)]; exact h1
  have i0 : ∀ c, c < 3 → vp_in ((3 : Int32) * nI k + nI c) 24 := fun c hc => pk_in (3 * k + c) 24 (by omega) (tj_ix 3 k c)
  refine pk_loop (fun n i s => wX_keyOfRow_6 post (nI k) (nI row) z lv qu ai st fo an bo tc oc ac a1 a2 a3 a4 a5 a6 a7 a8 a9 a10 a11 a12 a13 a14 a15 a16 a17 a18 a19 a20 a21 a22 a23 a24 a25 n s (nI i)) (fun i s => s = nI (if v < i then (if v = p then row / 5 else row % 5) else 0)) 5 0 0 (by omega) (by rw [if_neg (by omega)]; rfl) ?_ ?_
  · intro n s hs
    rw [if_pos hv5] at hs
    subst hs
    exact br_t (by decide) H
  · intro n i s hi hs hw
    refine br_f (nI_ge (b := 5) hi (by decide)) (ek_if (tj_b0 z (show i < 32 by omega)) (fun g => ?_) (fun g => ?_))
    · rw [hz, tj_shl1 v (by omega) i (by omega)] at g
      have g' : i ≠ v := of_decide_eq_false g
      refine nm_r (nI_1 i) (hw _ ?_)
      rw [hs]
      by_cases l : v < i
      · rw [if_pos l, if_pos (show v < i + 1 by omega)]
      · rw [if_neg l, if_neg (show ¬ v < i + 1 by omega)]
    · have g2 := tj_nf g
      rw [hz, tj_shl1 v (by omega) i (by omega)] at g2
      have g' : i = v := of_decide_eq_true g2
      subst g'
      rw [if_neg (by omega)] at hs
      subst hs
      have fin : ∀ (t : Nat), t = (if i = p then row / 5 else row % 5) → wX_keyOfRow_6 post (nI k) (nI row) z lv qu ai st fo an bo tc oc ac a1 a2 a3 a4 a5 a6 a7 a8 a9 a10 a11 a12 a13 a14 a15 a16 a17 a18 a19 a20 a21 a22 a23 a24 a25 n ((5 : Int32) * nI 0 + nI t) (nI i + 1) := by
        intro t ht
        rw [nI_1]
        refine hw _ ?_
        rw [if_pos (by omega), ← ht]
        exact (tj_ix 5 0 t).trans (by rw [Nat.mul_zero, Nat.zero_add])
      by_cases ep : i = p
      · refine ⟨1, i0 0 (by decide), br_t (by show a5 ((3 : Int32) * nI k + nI 0).toNatClampNeg = _; rw [e0, ep]) ⟨vp_in_nI hk (by decide), ?_⟩⟩
        exact tw_col0 e4 rfl rfl hrow (nm_e (nm_e (fin _ (by rw [if_pos ep]))))
      · have eq : i = q := by omega
        refine ⟨2, i0 0 (by decide), br_f (by show ¬ a5 ((3 : Int32) * nI k + nI 0).toNatClampNeg = _; rw [e0, nI_eq (by omega) (by omega)]; omega) (nm_r (show (0 : Int32) + 1 = nI 1 by decide) ?_)⟩
        refine ⟨i0 1 (by decide), br_t (by rw [e1, eq]) ⟨vp_in_nI hk (by decide), ?_⟩⟩
        exact tw_col1 e4 rfl rfl hrow (nm_e (nm_e (fin _ (by rw [if_neg ep]))))
/-! ===== the set of answers ===== -/
theorem tw_isIn {post : Int32 → Prop} {x : Int32} {a : Nat} (hx : x = nI a) (ha : a < 3136) (H0 : tj_in a10 a = false → post 0) (H1 : tj_in a10 a = true → post 1) : wpX_isIn_2 post (lv, qu, ai, st, fo, an, bo, tc, oc, ac, a1, a2, a3, a4, a5, a6, a7, a8, a9, a10, a11, a12, a13, a14, a15, a16, a17, a18, a19, a20, a21, a22, a23, a24, a25) x := by
  subst hx
  unfold wpX_isIn_2
  rw [tj_sh6 (by omega), tj_m63 (by omega), nI_clamp (by omega)]
  exact ⟨vp_in_nI (by omega) (by decide), ek_if (tj_h0 _ (Nat.mod_lt _ (by decide))) H0 (fun g => H1 (tj_nf g))⟩
theorem tw_putIn {post : St2 → Prop} {x : Int32} {a : Nat} (hx : x = nI a) (ha : a < 3136) (H : post (lv, qu, ai, st, fo, an, bo, tc, oc, ac, a1, a2, a3, a4, a5, a6, a7, a8, a9, (vp_updL a10 (a/64) (a10 (a/64) ||| ((1 : Int64) <<< ((nI (a % 64)).toInt64 &&& 63)))), a11, a12, a13, a14, a15, a16, a17, a18, a19, a20, a21, a22, a23, a24, a25)) : wpX_putIn_2 post (lv, qu, ai, st, fo, an, bo, tc, oc, ac, a1, a2, a3, a4, a5, a6, a7, a8, a9, a10, a11, a12, a13, a14, a15, a16, a17, a18, a19, a20, a21, a22, a23, a24, a25) x := by
  subst hx
  unfold wpX_putIn_2
  rw [tj_sh6 (by omega), tj_m63 (by omega), nI_clamp (by omega)]
  exact ⟨vp_in_nI (by omega) (by decide), vp_in_nI (by omega) (by decide), nm_e H⟩
theorem tw_empty {post : St2 → Prop} (H : ∀ b, (∀ a, a < 3136 → tj_in b a = false) → post (lv, qu, ai, st, fo, an, bo, tc, oc, ac, a1, a2, a3, a4, a5, a6, a7, a8, a9, b, a11, a12, a13, a14, a15, a16, a17, a18, a19, a20, a21, a22, a23, a24, a25)) : wpX_empty post (lv, qu, ai, st, fo, an, bo, tc, oc, ac, a1, a2, a3, a4, a5, a6, a7, a8, a9, a10, a11, a12, a13, a14, a15, a16, a17, a18, a19, a20, a21, a22, a23, a24, a25) := by
  refine pk_loop (fun n i s => wX_empty_2 post lv qu ai st fo an bo tc oc ac n (nI i) a1 a2 a3 a4 a5 a6 a7 a8 a9 s a11 a12 a13 a14 a15 a16 a17 a18 a19 a20 a21 a22 a23 a24 a25) (fun i s => ∀ j, j < i → s j = 0) 49 0 a10 (by omega) (fun j hj => absurd hj (by omega)) ?_ ?_
  · intro n s hs
    refine br_t (by decide) (H s (fun a ha => ?_))
    unfold tj_in
    rw [hs (a / 64) (by omega)]
    exact tj_h_0 _
  · intro n i s hi hs hw
    refine br_f (nI_ge (b := 49) hi (by decide)) ⟨vp_in_nI hi (by decide), nm_e (nm_r (nI_1 i) (hw _ (fun j hj => ?_)))⟩
    rw [nI_clamp (by omega)]
    by_cases e : j = i
    · rw [e, pk_uLs]
    · rw [pk_uLn e]; exact hs j (by omega)
end
end
section
/-! ===== the r-th member of a set of rows ===== -/
def tj_nth (R : Nat → Bool) : Nat → Nat → Nat
  | 0, _ => 0
  | n + 1, r => if R n = true ∧ tj_cnt R n = r then n else tj_nth R n r
theorem tj_nth_spec (R : Nat → Bool) : ∀ n r, r < tj_cnt R n → tj_nth R n r < n ∧ R (tj_nth R n r) = true ∧ tj_cnt R (tj_nth R n r) = r := by
  intro n
  induction n with
  | zero => intro r h; exact absurd h (Nat.not_lt_zero r)
  | succ n ih =>
    intro r h
    by_cases e : R n = true ∧ tj_cnt R n = r
    · have t : tj_nth R (n + 1) r = n := if_pos e
      rw [t]
      exact ⟨by omega, e.1, e.2⟩
    · have t : tj_nth R (n + 1) r = tj_nth R n r := if_neg e
      rw [t]
      have h2 : r < tj_cnt R n := by
        cases hb : R n
        · rw [tj_cnt_f hb] at h; exact h
        · rw [tj_cnt_t hb] at h
          have : tj_cnt R n ≠ r := fun z => e ⟨hb, z⟩
          omega
      obtain ⟨p1, p2, p3⟩ := ih r h2
      exact ⟨by omega, p2, p3⟩
/-- the list of atom i: c rows, row r of it is L r -/
def tj_LQ (a7 a8 : Nat → Int32) (i c : Nat) (L : Nat → Nat) : Prop := a7 i = nI c ∧ c ≤ 16 ∧ ∀ r, r < c → L r < 25 ∧ a8 (16 * i + r) = nI (L r)
/-- the list of atom i out of the rows below k of a relation R, and the living ones -/
def tj_LS (a7 a8 a9 : Nat → Int32) (i : Nat) (R : Nat → Bool) (k : Nat) : Prop := a7 i = nI (tj_cnt R k) ∧ (∀ row, row < k → R row = true → a8 (16 * i + tj_cnt R row) = nI row) ∧ (∀ r, r < 16 → tj_b (a9 i) r = decide (r < tj_cnt R k))
theorem tj_LS_LQ {a7 a8 a9 : Nat → Int32} {i : Nat} {R : Nat → Bool} (h : tj_LS a7 a8 a9 i R 25) (hc : tj_cnt R 25 ≤ 16) : tj_LQ a7 a8 i (tj_cnt R 25) (tj_nth R 25) := by
  obtain ⟨h1, h2, h3⟩ := h
  refine ⟨h1, hc, fun r hr => ?_⟩
  obtain ⟨p1, p2, p3⟩ := tj_nth_spec R 25 r hr
  have t := h2 _ p1 p2
  rw [p3] at t
  exact ⟨p1, t⟩
section
variable {lv qu ai st fo an bo tc oc ac : Int32} {a1 : Nat → Int64} {a2 : Nat → Int32} {a3 : Nat → Int32} {a4 : Nat → Int32} {a5 : Nat → Int32} {a6 : Nat → Int32} {a7 : Nat → Int32} {a8 : Nat → Int32} {a9 : Nat → Int32} {a10 : Nat → Int64} {a11 : Nat → Int64} {a12 : Nat → Int64} {a13 : Nat → Int32} {a14 : Nat → Int32} {a15 : Nat → Int32} {a16 : Nat → Int32} {a17 : Nat → Int32} {a18 : Nat → Int32} {a19 : Nat → Int32} {a20 : Nat → Int32} {a21 : Nat → Int32} {a22 : Nat → Int32} {a23 : Nat → Int32} {a24 : Nat → Int32} {a25 : Nat → Int32}
theorem tw_start68 {post : St2 → Prop} {J : Int32 → (Nat → Int64) → (Nat → Int32) → (Nat → Int32) → (Nat → Int32) → (Nat → Int32) → (Nat → Int32) → (Nat → Int32) → (Nat → Int32) → (Nat → Int32) → (Nat → Int64) → (Nat → Int64) → (Nat → Int64) → (Nat → Int32) → (Nat → Int32) → (Nat → Int32) → (Nat → Int32) → (Nat → Int32) → (Nat → Int32) → (Nat → Int32) → (Nat → Int32) → (Nat → Int32) → (Nat → Int32) → (Nat → Int32) → (Nat → Int32) → (Nat → Int32) → Prop} {q f i p v : Nat} {x2 x5 : Int32} {R : Nat → Bool} (hx5 : x5 = 0) (hi : i < 4) (hq : q < 2) (hf : f < 12) (hR : ∀ row, row < 25 → tj_h (a1 f) row = R row) (hc : tj_cnt R 25 ≤ 16) (hat : tj_AT a4 a5 (4 * q + i) p v)
    (h7 : a7 i = 0) (h9 : a9 i = 0)
    (H : ∀ b7 b8 b9, tj_LS b7 b8 b9 i R 25 → (∀ j, j ≠ i → b7 j = a7 j) → (∀ j, j ≠ i → b9 j = a9 j) → (∀ x, (x < 16 * i ∨ 16 * i + 16 ≤ x) → b8 x = a8 x) → J (nI (i + 1)) a1 a2 a3 a4 a5 a6 b7 b8 b9 a10 a11 a12 a13 a14 a15 a16 a17 a18 a19 a20 a21 a22 a23 a24 a25) :
    ∃ n, wX_start_68 post J (nI q) x2 (nI f) (nI i) x5 lv qu ai st fo an bo tc oc ac n 0 a1 a2 a3 a4 a5 a6 a7 a8 a9 a10 a11 a12 a13 a14 a15 a16 a17 a18 a19 a20 a21 a22 a23 a24 a25 := by
  subst hx5
  refine pk_loop (fun n r (s : (Nat → Int32) × (Nat → Int32) × (Nat → Int32)) => wX_start_68 post J (nI q) x2 (nI f) (nI i) 0 lv qu ai st fo an bo tc oc ac n (nI r) a1 a2 a3 a4 a5 a6 s.1 s.2.1 s.2.2 a10 a11 a12 a13 a14 a15 a16 a17 a18 a19 a20 a21 a22 a23 a24 a25) (fun r s => tj_LS s.1 s.2.1 s.2.2 i R r ∧ (∀ j, j ≠ i → s.1 j = a7 j) ∧ (∀ j, j ≠ i → s.2.2 j = a9 j) ∧ (∀ x, (x < 16 * i ∨ 16 * i + 16 ≤ x) → s.2.1 x = a8 x)) 25 0 (a7, a8, a9) (by omega) ?_ ?_ ?_
  · refine ⟨⟨h7, fun row hr => absurd hr (by omega), fun r hr => ?_⟩, fun j _ => rfl, fun j _ => rfl, fun x _ => rfl⟩
    show tj_b (a9 i) r = decide (r < 0)
    rw [h9, tj_0]
    exact (decide_eq_false (by omega)).symm
  · intro n s hs
    refine br_f (by decide) (br_t (by decide) (nm_r (nI_1 i) (H s.1 s.2.1 s.2.2 hs.1 hs.2.1 hs.2.2.1 hs.2.2.2)))
  · intro n r s hr hs hw
    obtain ⟨s7, s8, s9⟩ := s
    obtain ⟨⟨g7, g8, g9⟩, f7, f9, f8⟩ := hs
    dsimp only at g7 g8 g9 f7 f8 f9
    refine br_f (by decide) (br_f (nI_ge (b := 25) hr (by decide)) ?_)
    refine tw_hasRow0 rfl rfl rfl hf hr (fun z => ?_) (fun z => ?_)
    · rw [hR r hr] at z
      refine br_t rfl (nm_r (nI_1 r) (hw (s7, s8, s9) ⟨⟨?_, fun row h1 h2 => ?_, fun t ht => ?_⟩, f7, f9, f8⟩))
      · show s7 i = _
        rw [tj_cnt_f z]; exact g7
      · have : row ≠ r := fun e => by rw [e, z] at h2; exact absurd h2 (by decide)
        exact g8 row (by omega) h2
      · show tj_b (s9 i) t = _
        rw [tj_cnt_f z]; exact g9 t ht
    · rw [hR r hr] at z
      have hcr := tj_cnt_lt hr z
      have hc16 : tj_cnt R r < 16 := by omega
      have c4 : (nI i).toNatClampNeg = i := nI_clamp (by omega)
      have ei : (16 : Int32) * nI i + s7 (nI i).toNatClampNeg = nI (16 * i + tj_cnt R r) := by rw [c4, g7]; exact tj_ix 16 i _
      have v4 : vp_in (nI i) 4 := vp_in_nI hi (by decide)
      refine br_f (by decide) (tw_fits (k := 4 * q + i) (tj_ix 4 q i) rfl (by omega) hat (br_f (by decide) ⟨v4, pk_in (16 * i + tj_cnt R r) 64 (by omega) ei, ?_⟩))
      refine nm_r (show upd s8 ((16 : Int32) * nI i + s7 (nI i).toNatClampNeg).toNatClampNeg (nI r).toInt8.toInt32 = upd s8 (16 * i + tj_cnt R r) (nI r) by rw [ei, nI_clamp (by omega), tj_i8 r (by omega)]) ⟨v4, v4, v4, ?_⟩
      refine nm_r (show upd s9 (nI i).toNatClampNeg (s9 (nI i).toNatClampNeg ||| ((1 : Int32) <<< (s7 (nI i).toNatClampNeg &&& 31))) = upd s9 i (s9 i ||| ((1 : Int32) <<< (nI (tj_cnt R r) &&& 31))) by rw [c4, g7]) ⟨v4, v4, ?_⟩
      refine nm_r (show upd s7 (nI i).toNatClampNeg ((s7 (nI i).toNatClampNeg + 1).toInt8.toInt32) = upd s7 i (nI (tj_cnt R r + 1)) by rw [c4, g7, nI_1, tj_i8 _ (by omega)]) (nm_r (nI_1 r) (hw (_, _, _) ⟨⟨?_, fun row h1 h2 => ?_, fun t ht => ?_⟩, fun j hj => ?_, fun j hj => ?_, fun x hx => ?_⟩))
      · show upd s7 i _ i = _
        rw [pk_us, tj_cnt_t z]
      · show upd s8 _ _ _ = _
        by_cases e : row = r
        · rw [e, pk_us]
        · have lt : row < r := by omega
          have := tj_cnt_lt lt h2
          rw [pk_un (by omega)]
          exact g8 row lt h2
      · show tj_b (upd s9 i _ i) t = _
        rw [pk_us, tj_or, g9 t ht, tj_shl1 _ (by omega) t (by omega), tj_cnt_t z]
        by_cases e1 : t < tj_cnt R r
        · rw [decide_eq_true e1, decide_eq_true (show t < tj_cnt R r + 1 by omega), Bool.true_or]
        · rw [decide_eq_false e1, Bool.false_or]
          by_cases e2 : t = tj_cnt R r
          · rw [decide_eq_true e2, decide_eq_true (show t < tj_cnt R r + 1 by omega)]
          · rw [decide_eq_false e2, decide_eq_false (show ¬ t < tj_cnt R r + 1 by omega)]
      · show upd s7 i _ j = _
        rw [pk_un hj]; exact f7 j hj
      · show upd s9 i _ j = _
        rw [pk_un hj]; exact f9 j hj
      · show upd s8 _ _ x = _
        rw [pk_un (by omega)]; exact f8 x hx
theorem tw_start {post : St2 → Prop} {x y z : Int32} {q m f : Nat} {P Q : Nat → Nat} {R : Nat → Bool} (hx : x = nI q) (hy : y = nI m) (hz : z = nI f) (hq : q < 2) (hf : f < 12) (hR : ∀ row, row < 25 → tj_h (a1 f) row = R row) (hc : tj_cnt R 25 ≤ 16) (hqa : tj_QA a4 a5 q m P Q)
    (H : ∀ b7 b8 b9, (∀ j, j < 4 → m.testBit j = true → tj_LS b7 b8 b9 j R 25) → post (lv, (nI q), (nI m), (nI f), fo, an, bo, tc, oc, ac, a1, a2, a3, a4, a5, a6, b7, b8, b9, a10, a11, a12, a13, a14, a15, a16, a17, a18, a19, a20, a21, a22, a23, a24, a25)) : wpX_start post (lv, qu, ai, st, fo, an, bo, tc, oc, ac, a1, a2, a3, a4, a5, a6, a7, a8, a9, a10, a11, a12, a13, a14, a15, a16, a17, a18, a19, a20, a21, a22, a23, a24, a25) x y z := by
  subst hx hy hz
  refine pk_loop (fun n i (s : (Nat → Int32) × (Nat → Int32) × (Nat → Int32)) => wX_start_18 post (nI q) (nI m) (nI f) lv (nI q) (nI m) (nI f) fo an bo tc oc ac n (nI i) a1 a2 a3 a4 a5 a6 s.1 s.2.1 s.2.2 a10 a11 a12 a13 a14 a15 a16 a17 a18 a19 a20 a21 a22 a23 a24 a25) (fun i s => ∀ j, j < i → m.testBit j = true → tj_LS s.1 s.2.1 s.2.2 j R 25) 4 0 (a7, a8, a9) (by omega) (fun j hj => absurd hj (by omega)) ?_ ?_
  · intro n s hs
    exact br_t (by decide) (H _ _ _ hs)
  · intro n i s hi hs hw
    obtain ⟨s7, s8, s9⟩ := s
    dsimp only at hs
    have c4 : (nI i).toNatClampNeg = i := nI_clamp (by omega)
    have v4 : vp_in (nI i) 4 := vp_in_nI hi (by decide)
    refine br_f (nI_ge (b := 4) hi (by decide)) ⟨v4, nm_r (show upd s7 (nI i).toNatClampNeg 0 = upd s7 i 0 by rw [c4]) ⟨v4, nm_r (show upd s9 (nI i).toNatClampNeg 0 = upd s9 i 0 by rw [c4]) ?_⟩⟩
    have keep : ∀ (b7 b8 b9 : Nat → Int32), (∀ j, j ≠ i → b7 j = s7 j) → (∀ j, j ≠ i → b9 j = s9 j) → (∀ x, (x < 16 * i ∨ 16 * i + 16 ≤ x) → b8 x = s8 x) → ∀ j, j < i → m.testBit j = true → tj_LS b7 b8 b9 j R 25 := by
      intro b7 b8 b9 k7 k9 k8 j hj hm
      obtain ⟨g1, g2, g3⟩ := hs j hj hm
      refine ⟨by rw [k7 j (by omega)]; exact g1, fun row h1 h2 => ?_, fun r hr => by rw [k9 j (by omega)]; exact g3 r hr⟩
      have := tj_cnt_lt h1 h2
      rw [k8 _ (by omega)]
      exact g2 row h1 h2
    refine ek_if (tj_b0 (nI m) (show i < 32 by omega)) (fun g => ?_) (fun g => ?_)
    · rw [tj_nI m (by omega)] at g
      refine nm_r (nI_1 i) (hw (upd s7 i 0, s8, upd s9 i 0) (fun j hj hm => ?_))
      have hji : j ≠ i := fun e => by rw [e, g] at hm; exact absurd hm (by decide)
      exact keep _ _ _ (fun j h => pk_un h) (fun j h => pk_un h) (fun x _ => rfl) j (by omega) hm
    · have g' := tj_nf g
      rw [tj_nI m (by omega)] at g'
      have hat := hqa i hi g'
      have e4 : a4 ((4 : Int32) * nI q + nI i).toNatClampNeg = 0 := by
        rw [pk_cl (4 * q + i) (show (4 : Int32) * nI q + nI i = _ from tj_ix 4 q i) (by omega)]
        exact hat.1
      refine ⟨pk_in (4 * q + i) 8 (by omega) (tj_ix 4 q i), nm_r e4 ?_⟩
      refine tw_start68 rfl hi hq hf hR hc hat pk_us pk_us (fun b7 b8 b9 hl k7 k9 k8 => hw (b7, b8, b9) (fun j hj hm => ?_))
      by_cases e : j = i
      · rw [e]; exact hl
      · exact keep b7 b8 b9 (fun j h => by rw [k7 j h, pk_un h]) (fun j h => by rw [k9 j h, pk_un h]) k8 j (by omega) hm
end
end
section
/-- digits are values -/
def tj_DG (a15 : Nat → Int32) : Prop := ∀ k, k < 5 → ∃ d, d < 5 ∧ a15 k = nI d
theorem tj_DG_upd {a15 : Nat → Int32} {k d : Nat} (h : tj_DG a15) (hd : d < 5) : tj_DG (upd a15 k (nI d)) := by
  intro j hj
  by_cases e : j = k
  · exact ⟨d, hd, by rw [e, pk_us]⟩
  · obtain ⟨d', h1, h2⟩ := h j hj
    exact ⟨d', h1, by rw [pk_un e, h2]⟩
/-- the rows of atom i's trie: n numbers 5 * first + second, in order -/
def tj_SR (a21 : Nat → Int32) (i n : Nat) (Z : Nat → Nat) : Prop := ∀ r, r < n → Z r < 25 ∧ a21 (48 * i + r) = nI (Z r / 5) ∧ a21 (48 * i + 16 + r) = nI (Z r % 5)
def tj_SM (n : Nat) (Z : Nat → Nat) : Prop := ∀ r s, r ≤ s → s < n → Z r ≤ Z s
/-- a number put in at place p -/
def tj_ins (Z : Nat → Nat) (p z : Nat) : Nat → Nat := fun r => if r < p then Z r else if r = p then z else Z (r - 1)
theorem tj_ins_lt {Z : Nat → Nat} {p z r : Nat} (h : r < p) : tj_ins Z p z r = Z r := if_pos h
theorem tj_ins_eq {Z : Nat → Nat} {p z : Nat} : tj_ins Z p z p = z := by
  unfold tj_ins
  rw [if_neg (by omega), if_pos rfl]
theorem tj_ins_gt {Z : Nat → Nat} {p z r : Nat} (h : p < r) : tj_ins Z p z r = Z (r - 1) := by
  unfold tj_ins
  rw [if_neg (by omega), if_neg (by omega)]
theorem tj_ins_SM {Z : Nat → Nat} {n p z : Nat} (hp : p ≤ n) (h : tj_SM n Z) (h1 : ∀ r, r < p → Z r ≤ z) (h2 : ∀ r, p ≤ r → r < n → z ≤ Z r) : tj_SM (n + 1) (tj_ins Z p z) := by
  intro r s hrs hs
  rcases Nat.lt_trichotomy r p with a | a | a
  · rw [tj_ins_lt a]
    rcases Nat.lt_trichotomy s p with b | b | b
    · rw [tj_ins_lt b]; exact h r s hrs (by omega)
    · rw [b, tj_ins_eq]; exact h1 r a
    · rw [tj_ins_gt b]; exact h r (s - 1) (by omega) (by omega)
  · rw [a, tj_ins_eq]
    rcases Nat.lt_trichotomy s p with b | b | b
    · omega
    · rw [b, tj_ins_eq]; exact Nat.le_refl _
    · rw [tj_ins_gt b]; exact h2 (s - 1) (by omega) (by omega)
  · rw [tj_ins_gt a, tj_ins_gt (show p < s by omega)]
    exact h (r - 1) (s - 1) (by omega) (by omega)
theorem tj_ins_set {Z : Nat → Nat} {n p z : Nat} (hp : p ≤ n) (t : Nat) : (∃ r, r < n + 1 ∧ tj_ins Z p z r = t) ↔ (t = z ∨ ∃ r, r < n ∧ Z r = t) := by
  constructor
  · rintro ⟨r, hr, e⟩
    rcases Nat.lt_trichotomy r p with a | a | a
    · rw [tj_ins_lt a] at e; exact Or.inr ⟨r, by omega, e⟩
    · rw [a, tj_ins_eq] at e; exact Or.inl e.symm
    · rw [tj_ins_gt a] at e; exact Or.inr ⟨r - 1, by omega, e⟩
  · rintro (e | ⟨r, hr, e⟩)
    · exact ⟨p, by omega, by rw [tj_ins_eq, e]⟩
    · by_cases a : r < p
      · exact ⟨r, by omega, by rw [tj_ins_lt a]; exact e⟩
      · exact ⟨r + 1, by omega, by rw [tj_ins_gt (by omega)]; exact e⟩
section
variable {lv qu ai st fo an bo tc oc ac : Int32} {a1 : Nat → Int64} {a2 : Nat → Int32} {a3 : Nat → Int32} {a4 : Nat → Int32} {a5 : Nat → Int32} {a6 : Nat → Int32} {a7 : Nat → Int32} {a8 : Nat → Int32} {a9 : Nat → Int32} {a10 : Nat → Int64} {a11 : Nat → Int64} {a12 : Nat → Int64} {a13 : Nat → Int32} {a14 : Nat → Int32} {a15 : Nat → Int32} {a16 : Nat → Int32} {a17 : Nat → Int32} {a18 : Nat → Int32} {a19 : Nat → Int32} {a20 : Nat → Int32} {a21 : Nat → Int32} {a22 : Nat → Int32} {a23 : Nat → Int32} {a24 : Nat → Int32} {a25 : Nat → Int32}
theorem tw_trieAt {post : Int32 → Prop} {x y z : Int32} {i d r : Nat} (hx : x = nI i) (hy : y = nI d) (hz : z = nI r) (hb : 48 * i + 16 * d + r < 192) (h : post (a21 (48 * i + 16 * d + r))) : wpX_trieAt post (lv, qu, ai, st, fo, an, bo, tc, oc, ac, a1, a2, a3, a4, a5, a6, a7, a8, a9, a10, a11, a12, a13, a14, a15, a16, a17, a18, a19, a20, a21, a22, a23, a24, a25) x y z := by
  subst hx hy hz
  refine ⟨pk_in (48 * i + 16 * d + r) 192 hb (tj_ix2 48 i 16 d r), ek_v (P := post) ?_ h⟩
  rw [pk_cl (48 * i + 16 * d + r) (show (48 : Int32) * nI i + 16 * nI d + nI r = _ from tj_ix2 48 i 16 d r) (by omega)]
theorem tw_cb {post : Int32 → Prop} {x y : Int32} {i r z t : Nat} (ex : x = nI i) (ey : y = nI r) (hi : i < 4) (hr : r < 16) (h19 : a19 i = nI 2) (hx : a21 (48 * i + r) = nI (t / 5)) (hy : a21 (48 * i + 16 + r) = nI (t % 5)) (ht : t < 25) (hz : z < 25) (d0 : a15 0 = nI (z / 5)) (d1 : a15 1 = nI (z % 5)) (H0 : t ≤ z → post 0) (H1 : z < t → post 1) : wpX_comesBehind post (lv, qu, ai, st, fo, an, bo, tc, oc, ac, a1, a2, a3, a4, a5, a6, a7, a8, a9, a10, a11, a12, a13, a14, a15, a16, a17, a18, a19, a20, a21, a22, a23, a24, a25) x y := by
  subst ex ey
  have e19 : a19 (nI i).toNatClampNeg = nI 2 := by rw [nI_clamp (by omega)]; exact h19
  have hx' : a21 (48 * i + 16 * 0 + r) = nI (t / 5) := by rw [show 48 * i + 16 * 0 + r = 48 * i + r by omega]; exact hx
  have hy' : a21 (48 * i + 16 * 1 + r) = nI (t % 5) := by rw [show 48 * i + 16 * 1 + r = 48 * i + 16 + r by omega]; exact hy
  have d0' : a15 (0 : Int32).toNatClampNeg = nI (z / 5) := by rw [sb_cl0]; exact d0
  have d1' : a15 (nI 1).toNatClampNeg = nI (z % 5) := by rw [nI_clamp (by decide)]; exact d1
  have v4 : vp_in (nI i) 4 := vp_in_nI hi (by decide)
  refine ⟨3, v4, br_f (by rw [e19]; decide) (tw_trieAt (d := 0) rfl rfl rfl (by omega) ⟨pk_in 0 5 (by decide), ?_⟩)⟩
  refine pk_eq (t / 5) (z / 5) (fun e => nm_r (show (0 : Int32) + 1 = nI 1 by decide) ?_) (fun e => ⟨pk_in 0 5 (by decide), pk_le (t / 5) (z / 5) (fun l => H0 (by omega)) (fun l => H1 (by omega)) hx' d0'⟩) hx' d0'
  refine ⟨v4, br_f (by rw [e19]; decide) (tw_trieAt (d := 1) rfl rfl rfl (by omega) ⟨pk_in 1 5 (by decide), ?_⟩)⟩
  refine pk_eq (t % 5) (z % 5) (fun e2 => nm_r (show nI 1 + 1 = nI 2 by decide) ?_) (fun e2 => ⟨pk_in 1 5 (by decide), pk_le (t % 5) (z % 5) (fun l => H0 (by omega)) (fun l => H1 (by omega)) hy' d1'⟩) hy' d1'
  exact ⟨v4, br_t (by rw [e19]; decide) (H0 (by omega))⟩
theorem tw_tix {i d p : Nat} (hi : i < 4) (hd : d < 3) (hp : p < 16) : ((48 : Int32) * nI i + 16 * nI d + nI p).toNatClampNeg = 48 * i + 16 * d + p ∧ vp_in ((48 : Int32) * nI i + 16 * nI d + nI p) 192 :=
  ⟨pk_cl (48 * i + 16 * d + p) (tj_ix2 48 i 16 d p) (by omega), pk_in (48 * i + 16 * d + p) 192 (by omega) (tj_ix2 48 i 16 d p)⟩
theorem tw_tix1 {i d p : Nat} (hi : i < 4) (hd : d < 3) (hp : p + 1 < 16) : (((48 : Int32) * nI i + 16 * nI d + nI (p + 1)) - 1).toNatClampNeg = 48 * i + 16 * d + p ∧ vp_in (((48 : Int32) * nI i + 16 * nI d + nI (p + 1)) - 1) 192 := by
  have e : ((48 : Int32) * nI i + 16 * nI d + nI (p + 1)) - 1 = nI (48 * i + 16 * d + p) := by
    have t : (48 : Int32) * nI i + 16 * nI d + nI (p + 1) = nI (48 * i + 16 * d + p + 1) := tj_ix2 48 i 16 d (p + 1)
    rw [t, nI_pred]
  rw [e]
  exact ⟨nI_clamp (by omega), vp_in_nI (by omega) (by decide)⟩
/-- the write at the found place -/
theorem tw_sort139 {post : St2 → Prop} {i p z : Nat} (hi : i < 4) (hp : p < 16) (h19 : a19 i = nI 2) (hz : z < 25) (d0 : a15 0 = nI (z / 5)) (d1 : a15 1 = nI (z % 5)) (H : post (lv, qu, ai, st, fo, an, bo, tc, oc, ac, a1, a2, a3, a4, a5, a6, a7, a8, a9, a10, a11, a12, a13, a14, a15, a16, a17, a18, a19, a20, (upd (upd a21 (48 * i + p) (nI (z / 5))) (48 * i + 16 + p) (nI (z % 5))), a22, a23, a24, a25)) : ∃ n, wX_sortIn_139 post (nI i) (nI p) lv qu ai st fo an bo tc oc ac n 0 a1 a2 a3 a4 a5 a6 a7 a8 a9 a10 a11 a12 a13 a14 a15 a16 a17 a18 a19 a20 a21 a22 a23 a24 a25 := by
  have e19 : a19 (nI i).toNatClampNeg = nI 2 := by rw [nI_clamp (by omega)]; exact h19
  have v4 : vp_in (nI i) 4 := vp_in_nI hi (by decide)
  have t0 := tw_tix (i := i) (d := 0) (p := p) hi (by decide) hp
  have t1 := tw_tix (i := i) (d := 1) (p := p) hi (by decide) hp
  refine ⟨3, v4, br_f (by rw [e19]; decide) ⟨pk_in 0 5 (by decide), t0.2, nm_r (e' := upd a21 (48 * i + p) (nI (z / 5))) ?_ (nm_r (show (0 : Int32) + 1 = nI 1 by decide) ⟨v4, br_f (by rw [e19]; decide) ⟨pk_in 1 5 (by decide), t1.2, nm_r (e' := upd (upd a21 (48 * i + p) (nI (z / 5))) (48 * i + 16 + p) (nI (z % 5))) ?_ (nm_r (show nI 1 + 1 = nI 2 by decide) ⟨v4, br_t (by rw [e19]; decide) H⟩)⟩⟩)⟩⟩
  · show upd a21 ((48 : Int32) * nI i + 16 * nI 0 + nI p).toNatClampNeg (vp_nar .byte (a15 (0 : Int32).toNatClampNeg)) = _
    rw [t0.1, sb_cl0, d0, tj_v8 (by omega), show 48 * i + 16 * 0 + p = 48 * i + p by omega]
  · rw [t1.1, nI_clamp (show 1 < 2 ^ 31 by decide), d1, tj_v8 (by omega), show 48 * i + 16 * 1 + p = 48 * i + 16 + p by omega]
/-- the place is sought and the rows behind it move on -/
theorem tw_sort55 {post : St2 → Prop} {i n z : Nat} {Z : Nat → Nat} (hi : i < 4) (hn : n < 16) (h19 : a19 i = nI 2) (hz : z < 25) (d0 : a15 0 = nI (z / 5)) (d1 : a15 1 = nI (z % 5)) (hS : tj_SR a21 i n Z) (hM : tj_SM n Z)
    (H : ∀ b21 p, p ≤ n → tj_SR b21 i (n + 1) (tj_ins Z p z) → tj_SM (n + 1) (tj_ins Z p z) → (∀ x, (x < 48 * i ∨ 48 * i + 48 ≤ x) → b21 x = a21 x) → post (lv, qu, ai, st, fo, an, bo, tc, oc, ac, a1, a2, a3, a4, a5, a6, a7, a8, a9, a10, a11, a12, a13, a14, a15, a16, a17, a18, a19, a20, b21, a22, a23, a24, a25)) : ∃ f, wX_sortIn_55 post (nI i) lv qu ai st fo an bo tc oc ac f (nI n) a1 a2 a3 a4 a5 a6 a7 a8 a9 a10 a11 a12 a13 a14 a15 a16 a17 a18 a19 a20 a21 a22 a23 a24 a25 := by
  have e19 : a19 (nI i).toNatClampNeg = nI 2 := by rw [nI_clamp (by omega)]; exact h19
  have v4 : vp_in (nI i) 4 := vp_in_nI hi (by decide)
  -- what holds when the free place is p
  let I : Nat → (Nat → Int32) → Prop := fun p b => p ≤ n ∧ (∀ r, r < p → b (48 * i + r) = nI (Z r / 5) ∧ b (48 * i + 16 + r) = nI (Z r % 5)) ∧ (∀ r, p < r → r ≤ n → b (48 * i + r) = nI (Z (r - 1) / 5) ∧ b (48 * i + 16 + r) = nI (Z (r - 1) % 5)) ∧ (∀ r, p ≤ r → r < n → z < Z r) ∧ (∀ x, (x < 48 * i ∨ 48 * i + 48 ≤ x) → b x = a21 x)
  -- the place is found
  have done : ∀ p b, I p b → (∀ r, r < p → Z r ≤ z) → ∃ f, wX_sortIn_139 post (nI i) (nI p) lv qu ai st fo an bo tc oc ac f 0 a1 a2 a3 a4 a5 a6 a7 a8 a9 a10 a11 a12 a13 a14 a15 a16 a17 a18 a19 a20 b a22 a23 a24 a25 := by
    intro p b hI hle
    obtain ⟨hp, g1, g2, g3, g4⟩ := hI
    refine tw_sort139 hi (by omega) h19 hz d0 d1 (H _ p hp (fun r hr => ?_) (tj_ins_SM hp hM hle (fun r h1 h2 => Nat.le_of_lt (g3 r h1 h2))) (fun x hx => ?_))
    · rcases Nat.lt_trichotomy r p with a | a | a
      · rw [tj_ins_lt a, pk_un (by omega), pk_un (by omega), pk_un (by omega), pk_un (by omega)]
        exact ⟨(hS r (by omega)).1, g1 r a⟩
      · rw [a, tj_ins_eq, pk_un (by omega), pk_us, pk_us]
        exact ⟨hz, rfl, rfl⟩
      · rw [tj_ins_gt a, pk_un (by omega), pk_un (by omega), pk_un (by omega), pk_un (by omega)]
        exact ⟨(hS (r - 1) (by omega)).1, g2 r a (by omega)⟩
    · rw [pk_un (by omega), pk_un (by omega)]
      exact g4 x hx
  refine ⟨n + 1, pk_loopD (fun f p b => wX_sortIn_55 post (nI i) lv qu ai st fo an bo tc oc ac f (nI p) a1 a2 a3 a4 a5 a6 a7 a8 a9 a10 a11 a12 a13 a14 a15 a16 a17 a18 a19 a20 b a22 a23 a24 a25) I ?_ ?_ n a21 ⟨Nat.le_refl n, fun r hr => (hS r hr).2, fun r h1 h2 => absurd h1 (by omega), fun r h1 h2 => absurd h1 (by omega), fun x _ => rfl⟩⟩
  · intro f b hI
    exact br_t (by decide) (done 0 b hI (fun r hr => absurd hr (by omega)))
  · intro f p b hI hw
    have hI' := hI
    obtain ⟨hp, g1, g2, g3, g4⟩ := hI'
    refine br_f (nI_nle (by omega) (by omega)) ?_
    refine tw_cb (r := p) (t := Z p) rfl (nI_pred p) hi (by omega) h19 (g1 p (by omega)).1 (g1 p (by omega)).2 (hS p (by omega)).1 hz d0 d1 (fun l => br_t rfl (done (p + 1) b hI (fun r hr => ?_))) (fun l => br_f (by decide) ?_)
    · exact Nat.le_trans (hM r p (by omega) (by omega)) l
    · have t0 := tw_tix (i := i) (d := 0) (p := p + 1) hi (by decide) (by omega)
      have t1 := tw_tix (i := i) (d := 1) (p := p + 1) hi (by decide) (by omega)
      have u0 := tw_tix1 (i := i) (d := 0) (p := p) hi (by decide) (by omega)
      have u1 := tw_tix1 (i := i) (d := 1) (p := p) hi (by decide) (by omega)
      refine ⟨3, v4, br_f (by rw [e19]; decide) ⟨u0.2, t0.2, nm_r (e' := upd b (48 * i + (p + 1)) (nI (Z p / 5))) ?_ (nm_r (show (0 : Int32) + 1 = nI 1 by decide) ⟨v4, br_f (by rw [e19]; decide) ⟨u1.2, t1.2, nm_r (e' := upd (upd b (48 * i + (p + 1)) (nI (Z p / 5))) (48 * i + 16 + (p + 1)) (nI (Z p % 5))) ?_ (nm_r (show nI 1 + 1 = nI 2 by decide) ⟨v4, br_t (by rw [e19]; decide) (nm_r (pk_m1 p) (hw _ ?_))⟩)⟩⟩)⟩⟩
      · show upd b ((48 : Int32) * nI i + 16 * nI 0 + nI (p + 1)).toNatClampNeg (vp_nar .byte (b (((48 : Int32) * nI i + 16 * nI 0 + nI (p + 1)) - 1).toNatClampNeg)) = _
        rw [t0.1, u0.1, show 48 * i + 16 * 0 + (p + 1) = 48 * i + (p + 1) by omega, show 48 * i + 16 * 0 + p = 48 * i + p by omega]
        rw [(g1 p (by omega)).1, tj_v8 (by have := (hS p (by omega)).1; omega)]
      · rw [t1.1, u1.1, pk_un (by omega), show 48 * i + 16 * 1 + (p + 1) = 48 * i + 16 + (p + 1) by omega, show 48 * i + 16 * 1 + p = 48 * i + 16 + p by omega]
        rw [(g1 p (by omega)).2, tj_v8 (by omega)]
      · refine ⟨by omega, fun r hr => ?_, fun r h1 h2 => ?_, fun r h1 h2 => ?_, fun x hx => ?_⟩
        · rw [pk_un (by omega), pk_un (by omega), pk_un (by omega), pk_un (by omega)]
          exact g1 r (by omega)
        · by_cases e : r = p + 1
          · rw [e, pk_un (by omega), pk_us, pk_us, Nat.add_sub_cancel]
            exact ⟨rfl, rfl⟩
          · rw [pk_un (by omega), pk_un (by omega), pk_un (by omega), pk_un (by omega)]
            exact g2 r (by omega) h2
        · by_cases e : r = p
          · rw [e]; exact l
          · exact g3 r (by omega) h2
        · rw [pk_un (by omega), pk_un (by omega)]
          exact g4 x hx
/-- a row as first * 5 + second, first being the variable u -/
def tj_zz (u p : Nat) (row : Nat) : Nat := if u = p then row else 5 * (row % 5) + row / 5
theorem tj_zz_div {u p row : Nat} (h : row < 25) : tj_zz u p row / 5 = (if u = p then row / 5 else row % 5) := by
  unfold tj_zz
  split <;> omega
theorem tj_zz_mod {u v p q row : Nat} (h : row < 25) (hu : (u = p ∧ v = q) ∨ (u = q ∧ v = p)) (hne : p ≠ q) : tj_zz u p row % 5 = (if v = p then row / 5 else row % 5) := by
  unfold tj_zz
  by_cases e : u = p
  · rw [if_pos e, if_neg (by omega)]
  · rw [if_neg e, if_pos (by omega)]; omega
theorem tj_zz_lt {u p row : Nat} (h : row < 25) : tj_zz u p row < 25 := by
  unfold tj_zz
  split <;> omega
theorem tw_sortIn {post : St2 → Prop} {x y x' y' : Int32} {i k p q u v row n : Nat} {Z : Nat → Nat} (ex : x = nI i) (ey : y = nI k) (ex' : x' = nI row) (ey' : y' = nI n) (hi : i < 4) (hk : k < 8) (hrow : row < 25) (hn : n < 16) (hat : tj_AT a4 a5 k p q) (huv : (u = p ∧ v = q) ∨ (u = q ∧ v = p)) (h19 : a19 i = nI 2) (h200 : a20 (3 * i) = nI u) (h201 : a20 (3 * i + 1) = nI v) (hD : tj_DG a15) (hS : tj_SR a21 i n Z) (hM : tj_SM n Z)
    (H : ∀ b15 b21 Z', tj_DG b15 → tj_SR b21 i (n + 1) Z' → tj_SM (n + 1) Z' → (∀ t, (∃ r, r < n + 1 ∧ Z' r = t) ↔ (t = tj_zz u p row ∨ ∃ r, r < n ∧ Z r = t)) → (∀ x, (x < 48 * i ∨ 48 * i + 48 ≤ x) → b21 x = a21 x) → post (lv, qu, ai, st, fo, an, bo, tc, oc, ac, a1, a2, a3, a4, a5, a6, a7, a8, a9, a10, a11, a12, a13, a14, b15, a16, a17, a18, a19, a20, b21, a22, a23, a24, a25)) : wpX_sortIn post (lv, qu, ai, st, fo, an, bo, tc, oc, ac, a1, a2, a3, a4, a5, a6, a7, a8, a9, a10, a11, a12, a13, a14, a15, a16, a17, a18, a19, a20, a21, a22, a23, a24, a25) x y x' y' := by
  subst ex ey ex' ey'
  have hat' := hat
  obtain ⟨-, -, -, -, hp5, hq5, hne⟩ := hat'
  have e19 : a19 (nI i).toNatClampNeg = nI 2 := by rw [nI_clamp (by omega)]; exact h19
  have v4 : vp_in (nI i) 4 := vp_in_nI hi (by decide)
  have c0 : a20 ((3 : Int32) * nI i + nI 0).toNatClampNeg = nI u := by rw [pk_cl (3 * i + 0) (show (3 : Int32) * nI i + nI 0 = _ from tj_ix 3 i 0) (by omega)]; exact h200
  have c1 : a20 ((3 : Int32) * nI i + nI 1).toNatClampNeg = nI v := by rw [pk_cl (3 * i + 1) (show (3 : Int32) * nI i + nI 1 = _ from tj_ix 3 i 1) (by omega)]; exact h201
  have hzl : tj_zz u p row < 25 := tj_zz_lt hrow
  have k0 : (if u = p then row / 5 else row % 5) = tj_zz u p row / 5 := (tj_zz_div hrow).symm
  have k1 : (if v = p then row / 5 else row % 5) = tj_zz u p row % 5 := (tj_zz_mod hrow huv hne).symm
  refine ⟨3, v4, br_f (by rw [e19]; decide) ⟨pk_in (3 * i + 0) 12 (by omega) (tj_ix 3 i 0), ?_⟩⟩
  refine tw_key (v := u) rfl rfl (by show (1 : Int32) <<< (a20 ((3 : Int32) * nI i + nI 0).toNatClampNeg &&& 31) = _; rw [c0]) hk hrow hat (by omega) ⟨pk_in 0 5 (by decide), ?_⟩
  refine nm_r (e' := upd a15 0 (nI (tj_zz u p row / 5))) (by rw [k0, tj_i8 _ (by omega)]; rfl) (nm_r (show (0 : Int32) + 1 = nI 1 by decide) ⟨v4, br_f (by rw [e19]; decide) ⟨pk_in (3 * i + 1) 12 (by omega) (tj_ix 3 i 1), ?_⟩⟩)
  refine tw_key (v := v) rfl rfl (by rw [c1]) hk hrow hat (by omega) ⟨pk_in 1 5 (by decide), ?_⟩
  refine nm_r (e' := upd (upd a15 0 (nI (tj_zz u p row / 5))) 1 (nI (tj_zz u p row % 5))) (by rw [k1, tj_i8 _ (by omega)]; rfl) (nm_r (show nI 1 + 1 = nI 2 by decide) ⟨v4, br_t (by rw [e19]; decide) ?_⟩)
  refine tw_sort55 (Z := Z) hi hn h19 hzl (by rw [pk_un (by decide), pk_us]) pk_us hS hM (fun b21 pl hpl s1 s2 s3 => H _ b21 _ (tj_DG_upd (tj_DG_upd hD (by omega)) (by omega)) s1 s2 (fun t => tj_ins_set hpl t) s3)
end
end
section
def tj_pa (th w v : Nat) : Bool := th.testBit v && w.testBit v
def tj_pb (th w v : Nat) : Bool := th.testBit v && !w.testBit v
def tj_A (th w : Nat) : Nat := tj_cnt (tj_pa th w) 5
def tj_M (th w : Nat) : Nat := tj_A th w + tj_cnt (tj_pb th w) 5
def tj_od (th w k : Nat) : Nat := if k < tj_A th w then tj_nth (tj_pa th w) 5 k else tj_nth (tj_pb th w) 5 (k - tj_A th w)
def tj_ps (th w v : Nat) : Nat := if w.testBit v = true then tj_cnt (tj_pa th w) v else tj_A th w + tj_cnt (tj_pb th w) v
theorem tj_cnt_disj {p q : Nat → Bool} {n : Nat} (h : ∀ j, j < n → p j = true → q j = false) : tj_cnt p n + tj_cnt q n ≤ n := by
  induction n with
  | zero => exact Nat.le_refl _
  | succ n ih =>
    have := ih (fun j hj => h j (by omega))
    cases hp : p n
    · rw [tj_cnt_f hp]
      cases hq : q n
      · rw [tj_cnt_f hq]; omega
      · rw [tj_cnt_t hq]; omega
    · rw [tj_cnt_t hp, tj_cnt_f (h n (by omega) hp)]; omega
theorem tj_M5 (th w : Nat) : tj_M th w ≤ 5 := by
  refine tj_cnt_disj (fun j _ h => ?_)
  unfold tj_pa at h
  unfold tj_pb
  rw [Bool.and_eq_true] at h
  rw [h.2]
  simp
/-- the order of variables: od by place, ps by variable, the first A asked -/
def tj_OP (th w M A : Nat) (od ps : Nat → Nat) : Prop := (∀ k, k < M → od k < 5 ∧ th.testBit (od k) = true ∧ ps (od k) = k ∧ (w.testBit (od k) = true ↔ k < A)) ∧ (∀ v, v < 5 → th.testBit v = true → ps v < M ∧ od (ps v) = v) ∧ A ≤ M ∧ M ≤ 5
theorem tj_pa_t {th w v : Nat} (h : tj_pa th w v = true) : th.testBit v = true ∧ w.testBit v = true := by
  unfold tj_pa at h
  rwa [Bool.and_eq_true] at h
theorem tj_pb_t {th w v : Nat} (h : tj_pb th w v = true) : th.testBit v = true ∧ w.testBit v = false := by
  unfold tj_pb at h
  rw [Bool.and_eq_true] at h
  exact ⟨h.1, by simpa using h.2⟩
theorem tj_od_lo {th w k : Nat} (h : k < tj_A th w) : tj_od th w k = tj_nth (tj_pa th w) 5 k := if_pos h
theorem tj_od_hi {th w k : Nat} (h : tj_A th w ≤ k) : tj_od th w k = tj_nth (tj_pb th w) 5 (k - tj_A th w) := if_neg (by omega)
theorem tj_cnt_inj {p : Nat → Bool} {u v : Nat} (hu : p u = true) (hv : p v = true) (h : tj_cnt p u = tj_cnt p v) : u = v := by
  rcases Nat.lt_trichotomy u v with a | a | a
  · have := tj_cnt_lt a hu; omega
  · exact a
  · have := tj_cnt_lt a hv; omega
theorem tj_OP_mk (th w : Nat) : tj_OP th w (tj_M th w) (tj_A th w) (tj_od th w) (tj_ps th w) := by
  refine ⟨fun k hk => ?_, fun v hv ht => ?_, Nat.le_add_right _ _, tj_M5 th w⟩
  · by_cases e : k < tj_A th w
    · rw [tj_od_lo e]
      obtain ⟨h1, h2, h3⟩ := tj_nth_spec (tj_pa th w) 5 k e
      obtain ⟨g1, g2⟩ := tj_pa_t h2
      refine ⟨h1, g1, ?_, fun _ => e, fun _ => g2⟩
      unfold tj_ps
      rw [if_pos g2, h3]
    · rw [tj_od_hi (by omega)]
      have hk' : k - tj_A th w < tj_cnt (tj_pb th w) 5 := by unfold tj_M at hk; omega
      obtain ⟨h1, h2, h3⟩ := tj_nth_spec (tj_pb th w) 5 _ hk'
      obtain ⟨g1, g2⟩ := tj_pb_t h2
      refine ⟨h1, g1, ?_, fun z => ?_, fun z => absurd z e⟩
      · unfold tj_ps
        rw [if_neg (by rw [g2]; decide), h3]
        omega
      · rw [g2] at z; exact absurd z (by decide)
  · cases hw : w.testBit v
    · have hp : tj_pb th w v = true := by unfold tj_pb; rw [ht, hw]; rfl
      have e : tj_ps th w v = tj_A th w + tj_cnt (tj_pb th w) v := if_neg (by rw [hw]; decide)
      have hl := tj_cnt_lt hv hp
      rw [e]
      refine ⟨by unfold tj_M; omega, ?_⟩
      rw [tj_od_hi (by omega), Nat.add_sub_cancel_left]
      obtain ⟨h1, h2, h3⟩ := tj_nth_spec (tj_pb th w) 5 _ hl
      exact tj_cnt_inj h2 hp h3
    · have hp : tj_pa th w v = true := by unfold tj_pa; rw [ht, hw]; rfl
      have e : tj_ps th w v = tj_cnt (tj_pa th w) v := if_pos hw
      have hl : tj_cnt (tj_pa th w) v < tj_A th w := tj_cnt_lt hv hp
      rw [e]
      refine ⟨by unfold tj_M; omega, ?_⟩
      rw [tj_od_lo hl]
      obtain ⟨h1, h2, h3⟩ := tj_nth_spec (tj_pa th w) 5 _ hl
      exact tj_cnt_inj h2 hp h3
section
variable {lv qu ai st fo an bo tc oc ac : Int32} {a1 : Nat → Int64} {a2 : Nat → Int32} {a3 : Nat → Int32} {a4 : Nat → Int32} {a5 : Nat → Int32} {a6 : Nat → Int32} {a7 : Nat → Int32} {a8 : Nat → Int32} {a9 : Nat → Int32} {a10 : Nat → Int64} {a11 : Nat → Int64} {a12 : Nat → Int64} {a13 : Nat → Int32} {a14 : Nat → Int32} {a15 : Nat → Int32} {a16 : Nat → Int32} {a17 : Nat → Int32} {a18 : Nat → Int32} {a19 : Nat → Int32} {a20 : Nat → Int32} {a21 : Nat → Int32} {a22 : Nat → Int32} {a23 : Nat → Int32} {a24 : Nat → Int32} {a25 : Nat → Int32}
theorem tw_addTo {post : St2 → Prop} {x : Int32} {k v : Nat} (hx : x = nI v) (hoc : oc = nI k) (hk : k < 5) (hv : v < 5) (H : post (lv, qu, ai, st, fo, an, bo, tc, (nI (k + 1)), ac, a1, a2, a3, a4, a5, a6, a7, a8, a9, a10, a11, a12, a13, a14, a15, a16, a17, (upd a18 k (nI v)), a19, a20, a21, a22, a23, a24, a25)) : wpX_addToOrder post (lv, qu, ai, st, fo, an, bo, tc, oc, ac, a1, a2, a3, a4, a5, a6, a7, a8, a9, a10, a11, a12, a13, a14, a15, a16, a17, a18, a19, a20, a21, a22, a23, a24, a25) x := by
  subst hx hoc
  exact ⟨vp_in_nI hk (by decide), nm_r (by rw [nI_clamp (by omega), tj_i8 v (by omega)]) (nm_r (nI_1 k) H)⟩
theorem tw_ord64 {post : St2 → Prop} {th w q base : Nat} (hqu : qu = nI q) (hq : q < 2) (hw : a6 q = nI w) (hb : base + tj_cnt (tj_pb th w) 5 ≤ 5) (hoc : oc = nI base)
    (H : ∀ b18, (∀ k, k < base → b18 k = a18 k) → (∀ v, v < 5 → tj_pb th w v = true → b18 (base + tj_cnt (tj_pb th w) v) = nI v) → post (lv, qu, ai, st, fo, an, bo, tc, (nI (base + tj_cnt (tj_pb th w) 5)), ac, a1, a2, a3, a4, a5, a6, a7, a8, a9, a10, a11, a12, a13, a14, a15, a16, a17, b18, a19, a20, a21, a22, a23, a24, a25)) : ∃ n, wX_orderVariables_64 post (nI th) n 0 lv qu ai st fo an bo tc oc ac a1 a2 a3 a4 a5 a6 a7 a8 a9 a10 a11 a12 a13 a14 a15 a16 a17 a18 a19 a20 a21 a22 a23 a24 a25 := by
  subst hqu hoc
  have eq : a6 (nI q).toNatClampNeg = nI w := by rw [nI_clamp (by omega)]; exact hw
  refine pk_loop (fun n i s => wX_orderVariables_64 post (nI th) n (nI i) lv (nI q) ai st fo an bo tc (nI (base + tj_cnt (tj_pb th w) i)) ac a1 a2 a3 a4 a5 a6 a7 a8 a9 a10 a11 a12 a13 a14 a15 a16 a17 s a19 a20 a21 a22 a23 a24 a25) (fun i s => (∀ k, k < base → s k = a18 k) ∧ (∀ v, v < i → tj_pb th w v = true → s (base + tj_cnt (tj_pb th w) v) = nI v)) 5 0 a18 (by omega) ⟨fun k _ => rfl, fun v hv => absurd hv (by omega)⟩ ?_ ?_
  · intro n s hs
    exact br_t (by decide) (H s hs.1 hs.2)
  · intro n i s hi hs hw'
    refine br_f (nI_ge (b := 5) hi (by decide)) ⟨vp_in_nI hq (by decide), ?_⟩
    have cond : tj_b (nI th &&& (a6 (nI q).toNatClampNeg ^^^ (-1))) i = tj_pb th w i := by
      rw [eq, tj_and, tj_not _ (show i < 32 by omega), tj_nI th (by omega), tj_nI w (by omega)]
      rfl
    refine ek_if (tj_and0 _ (show i < 32 by omega)) (fun z => ?_) (fun z => ?_)
    · rw [cond] at z
      refine nm_r (nI_1 i) ?_
      have t := hw' s ⟨hs.1, fun v hv hp => ?_⟩
      · try dsimp only at t
        rw [tj_cnt_f z] at t
        exact t
      · have : v ≠ i := fun e => by rw [e, z] at hp; exact absurd hp (by decide)
        exact hs.2 v (by omega) hp
    · have z' := tj_nf z
      rw [cond] at z'
      have hl := tj_cnt_lt hi z'
      refine tw_addTo (k := base + tj_cnt (tj_pb th w) i) rfl rfl (by omega) hi (nm_r (nI_1 i) ?_)
      have t := hw' (upd s (base + tj_cnt (tj_pb th w) i) (nI i)) ⟨fun k hk => ?_, fun v hv hp => ?_⟩
      · try dsimp only at t
        rw [tj_cnt_t z'] at t
        exact t
      · rw [pk_un (by omega)]; exact hs.1 k hk
      · by_cases e : v = i
        · rw [e, pk_us]
        · have := tj_cnt_lt (show v < i by omega) hp
          rw [pk_un (by omega)]
          exact hs.2 v (by omega) hp
theorem tw_order {post : St2 → Prop} {th w q m : Nat} {P Q : Nat → Nat} (hqu : qu = nI q) (hai : ai = nI m) (hq : q < 2) (hqa : tj_QA a4 a5 q m P Q) (hw : a6 q = nI w) (ht : tj_vs m (fun i => 2 ^ P i ||| 2 ^ Q i) 4 = th)
    (H : ∀ b18, (∀ k, k < tj_M th w → b18 k = nI (tj_od th w k)) → post (lv, qu, ai, st, fo, an, bo, tc, (nI (tj_M th w)), (nI (tj_A th w)), a1, a2, a3, a4, a5, a6, a7, a8, a9, a10, a11, a12, a13, a14, a15, a16, a17, b18, a19, a20, a21, a22, a23, a24, a25)) : wpX_orderVariables post (lv, qu, ai, st, fo, an, bo, tc, oc, ac, a1, a2, a3, a4, a5, a6, a7, a8, a9, a10, a11, a12, a13, a14, a15, a16, a17, a18, a19, a20, a21, a22, a23, a24, a25) := by
  subst hqu hai ht
  generalize hth : tj_vs m (fun i => 2 ^ P i ||| 2 ^ Q i) 4 = th at H
  have eq : a6 (nI q).toNatClampNeg = nI w := by rw [nI_clamp (by omega)]; exact hw
  have hM := tj_M5 th w
  unfold wpX_orderVariables
  refine tw_vOf rfl rfl hq hqa ?_
  rw [hth]
  refine pk_loop (fun n i s => wX_orderVariables_20 post (nI th) n (nI i) lv (nI q) (nI m) st fo an bo tc (nI (tj_cnt (tj_pa th w) i)) ac a1 a2 a3 a4 a5 a6 a7 a8 a9 a10 a11 a12 a13 a14 a15 a16 a17 s a19 a20 a21 a22 a23 a24 a25) (fun i s => ∀ v, v < i → tj_pa th w v = true → s (tj_cnt (tj_pa th w) v) = nI v) 5 0 a18 (by omega) (fun v hv => absurd hv (by omega)) ?_ ?_
  · intro n s hs
    refine br_t (by decide) (tw_ord64 (base := tj_A th w) (w := w) rfl hq hw hM rfl (fun b18 k1 k2 => H b18 (fun k hk => ?_)))
    by_cases e : k < tj_A th w
    · obtain ⟨h1, h2, h3⟩ := tj_nth_spec (tj_pa th w) 5 k e
      have t := hs _ h1 h2
      rw [h3] at t
      rw [tj_od_lo e, k1 k e, t]
    · have hk' : k - tj_A th w < tj_cnt (tj_pb th w) 5 := by unfold tj_M at hk; omega
      obtain ⟨h1, h2, h3⟩ := tj_nth_spec (tj_pb th w) 5 _ hk'
      have t := k2 _ h1 h2
      rw [h3, show tj_A th w + (k - tj_A th w) = k by omega] at t
      rw [tj_od_hi (by omega), t]
  · intro n i s hi hs hw'
    refine br_f (nI_ge (b := 5) hi (by decide)) ⟨vp_in_nI hq (by decide), ?_⟩
    have cond : tj_b (nI th &&& a6 (nI q).toNatClampNeg) i = tj_pa th w i := by
      rw [eq, tj_and, tj_nI th (by omega), tj_nI w (by omega)]
      rfl
    refine ek_if (tj_and0 _ (show i < 32 by omega)) (fun z => ?_) (fun z => ?_)
    · rw [cond] at z
      refine nm_r (nI_1 i) ?_
      have t := hw' s (fun v hv hp => ?_)
      · try dsimp only at t
        rw [tj_cnt_f z] at t
        exact t
      · have : v ≠ i := fun e => by rw [e, z] at hp; exact absurd hp (by decide)
        exact hs v (by omega) hp
    · have z' := tj_nf z
      rw [cond] at z'
      have hl := tj_cnt_lt hi z'
      have hA : tj_cnt (tj_pa th w) 5 = tj_A th w := rfl
      have hAM : tj_A th w ≤ tj_M th w := Nat.le_add_right _ _
      refine tw_addTo (k := tj_cnt (tj_pa th w) i) rfl rfl (by omega) hi (nm_r (nI_1 i) ?_)
      have t := hw' (upd s (tj_cnt (tj_pa th w) i) (nI i)) (fun v hv hp => ?_)
      · try dsimp only at t
        rw [tj_cnt_t z'] at t
        exact t
      · by_cases e : v = i
        · rw [e, pk_us]
        · have := tj_cnt_lt (show v < i by omega) hp
          rw [pk_un (by omega)]
          exact hs v (by omega) hp
end
end
section
/-- how many of the two places are below d -/
def tj_dn (k1 k2 d : Nat) : Nat := (if k1 < d then 1 else 0) + (if k2 < d then 1 else 0)
theorem tj_dn0 {k1 k2 d : Nat} (h : k1 < k2) (hd : d ≤ k1) : tj_dn k1 k2 d = 0 := by
  unfold tj_dn
  rw [if_neg (by omega), if_neg (by omega)]
theorem tj_dn1 {k1 k2 d : Nat} (h1 : k1 < d) (h2 : d ≤ k2) : tj_dn k1 k2 d = 1 := by
  unfold tj_dn
  rw [if_pos h1, if_neg (by omega)]
theorem tj_dn2 {k1 k2 d : Nat} (h : k1 < k2) (hd : k2 < d) : tj_dn k1 k2 d = 2 := by
  unfold tj_dn
  rw [if_pos (by omega), if_pos hd]
/-- outside atom i's places nothing has changed -/
def tj_FR (i : Nat) (a19 a20 a21 a22 a23 a24 b19 b20 b21 b22 b23 b24 : Nat → Int32) : Prop := (∀ j, j ≠ i → b19 j = a19 j) ∧ (∀ x, (x < 3 * i ∨ 3 * i + 3 ≤ x) → b20 x = a20 x) ∧ (∀ x, (x < 48 * i ∨ 48 * i + 48 ≤ x) → b21 x = a21 x) ∧ (∀ x, (x < 4 * i ∨ 4 * i + 4 ≤ x) → b22 x = a22 x) ∧ (∀ x, (x < 4 * i ∨ 4 * i + 4 ≤ x) → b23 x = a23 x) ∧ (∀ j, j ≠ i → b24 j = a24 j)
/-- atom i's trie stands: variables u, v, rows Z -/
def tj_TR (a19 a20 a21 a22 a23 a24 : Nat → Int32) (i u v n : Nat) (Z : Nat → Nat) : Prop := a19 i = nI 2 ∧ a20 (3 * i) = nI u ∧ a20 (3 * i + 1) = nI v ∧ tj_SR a21 i n Z ∧ tj_SM n Z ∧ n ≤ 16 ∧ a22 (4 * i) = nI 0 ∧ a23 (4 * i) = nI n ∧ a24 i = nI 0
theorem tj_TR_FR {i j u v n : Nat} {Z : Nat → Nat} {a19 a20 a21 a22 a23 a24 b19 b20 b21 b22 b23 b24 : Nat → Int32} (h : tj_TR a19 a20 a21 a22 a23 a24 j u v n Z) (hf : tj_FR i a19 a20 a21 a22 a23 a24 b19 b20 b21 b22 b23 b24) (hj : j ≠ i) : tj_TR b19 b20 b21 b22 b23 b24 j u v n Z := by
  obtain ⟨h1, h2, h3, h4, h5, h6, h7, h8, h9⟩ := h
  obtain ⟨f1, f2, f3, f4, f5, f6⟩ := hf
  refine ⟨by rw [f1 j hj]; exact h1, by rw [f2 _ (by omega)]; exact h2, by rw [f2 _ (by omega)]; exact h3, fun r hr => ?_, h5, h6, by rw [f4 _ (by omega)]; exact h7, by rw [f5 _ (by omega)]; exact h8, by rw [f6 j hj]; exact h9⟩
  obtain ⟨g1, g2, g3⟩ := h4 r hr
  refine ⟨g1, by rw [f3 _ (by omega)]; exact g2, by rw [f3 _ (by omega)]; exact g3⟩
section
variable {lv qu ai st fo an bo tc oc ac : Int32} {a1 : Nat → Int64} {a2 : Nat → Int32} {a3 : Nat → Int32} {a4 : Nat → Int32} {a5 : Nat → Int32} {a6 : Nat → Int32} {a7 : Nat → Int32} {a8 : Nat → Int32} {a9 : Nat → Int32} {a10 : Nat → Int64} {a11 : Nat → Int64} {a12 : Nat → Int64} {a13 : Nat → Int32} {a14 : Nat → Int32} {a15 : Nat → Int32} {a16 : Nat → Int32} {a17 : Nat → Int32} {a18 : Nat → Int32} {a19 : Nat → Int32} {a20 : Nat → Int32} {a21 : Nat → Int32} {a22 : Nat → Int32} {a23 : Nat → Int32} {a24 : Nat → Int32} {a25 : Nat → Int32}
theorem tw_bt25 {post : St2 → Prop} {x2 : Int32} {i M k1 k2 th : Nat} {od : Nat → Nat} (hi : i < 4) (hoc : oc = nI M) (hM : M ≤ 5) (h18 : ∀ k, k < M → a18 k = nI (od k)) (hod : ∀ k, k < M → od k < 5) (hb : ∀ j, j < M → (th.testBit (od j) = true ↔ (j = k1 ∨ j = k2))) (h12 : k1 < k2) (h2M : k2 < M) (h19 : a19 i = 0)
    (H : ∀ b19 b20, b19 i = nI 2 → b20 (3 * i) = nI (od k1) → b20 (3 * i + 1) = nI (od k2) → (∀ j, j ≠ i → b19 j = a19 j) → (∀ x, (x < 3 * i ∨ 3 * i + 3 ≤ x) → b20 x = a20 x) → ∃ n, wX_buildTrie_96 post (nI i) x2 n 0 0 lv qu ai st fo an bo tc (nI M) ac a1 a2 a3 a4 a5 a6 a7 a8 a9 a10 a11 a12 a13 a14 a15 a16 a17 a18 b19 b20 a21 a22 a23 a24 a25) :
    ∃ n, wX_buildTrie_25 post (nI i) x2 (nI th) lv qu ai st fo an bo tc oc ac n 0 a1 a2 a3 a4 a5 a6 a7 a8 a9 a10 a11 a12 a13 a14 a15 a16 a17 a18 a19 a20 a21 a22 a23 a24 a25 := by
  subst hoc
  have v4 : vp_in (nI i) 4 := vp_in_nI hi (by decide)
  have c4 : (nI i).toNatClampNeg = i := nI_clamp (by omega)
  refine pk_loop (fun n k (s : (Nat → Int32) × (Nat → Int32)) => wX_buildTrie_25 post (nI i) x2 (nI th) lv qu ai st fo an bo tc (nI M) ac n (nI k) a1 a2 a3 a4 a5 a6 a7 a8 a9 a10 a11 a12 a13 a14 a15 a16 a17 a18 s.1 s.2 a21 a22 a23 a24 a25) (fun k s => s.1 i = nI (tj_dn k1 k2 k) ∧ (k1 < k → s.2 (3 * i) = nI (od k1)) ∧ (k2 < k → s.2 (3 * i + 1) = nI (od k2)) ∧ (∀ j, j ≠ i → s.1 j = a19 j) ∧ (∀ x, (x < 3 * i ∨ 3 * i + 3 ≤ x) → s.2 x = a20 x)) M 0 (a19, a20) (by omega) ?_ ?_ ?_
  · exact ⟨by rw [tj_dn0 h12 (by omega)]; exact h19, fun h => absurd h (by omega), fun h => absurd h (by omega), fun j _ => rfl, fun x _ => rfl⟩
  · intro n s hs
    obtain ⟨g1, g2, g3, g4, g5⟩ := hs
    rw [tj_dn2 h12 h2M] at g1
    exact pk_le M M (fun _ => H _ _ g1 (g2 (by omega)) (g3 h2M) g4 g5) (fun z => absurd z (by omega))
  · intro n k s hk hs hw
    obtain ⟨s19, s20⟩ := s
    obtain ⟨g1, g2, g3, g4, g5⟩ := hs
    dsimp only at g1 g2 g3 g4 g5
    show wX_buildTrie_25 post (nI i) x2 (nI th) lv qu ai st fo an bo tc (nI M) ac (n + 1) (nI k) a1 a2 a3 a4 a5 a6 a7 a8 a9 a10 a11 a12 a13 a14 a15 a16 a17 a18 s19 s20 a21 a22 a23 a24 a25
    have ck : a18 (nI k).toNatClampNeg = nI (od k) := by rw [nI_clamp (by omega)]; exact h18 k hk
    have hok := hod k hk
    refine pk_le M k (fun z => absurd z (by omega)) (fun _ => ⟨vp_in_nI (by omega) (by decide), ?_⟩)
    have cond : (((nI th >>> (a18 (nI k).toNatClampNeg &&& 31)) &&& 1) = 0) ↔ th.testBit (od k) = false := by
      rw [ck, tj_b0 _ (by omega), tj_nI _ (by omega)]
    refine ek_if cond (fun z => ?_) (fun z => ?_)
    · have nb : ¬ (k = k1 ∨ k = k2) := fun e => by rw [(hb k hk).mpr e] at z; exact absurd z (by decide)
      refine nm_r (nI_1 k) (hw (s19, s20) ⟨?_, fun h => g2 (by omega), fun h => g3 (by omega), g4, g5⟩)
      show s19 i = _
      rw [g1]
      unfold tj_dn
      congr 1
      congr 1
      · by_cases l : k1 < k
        · rw [if_pos l, if_pos (by omega)]
        · rw [if_neg l, if_neg (by omega)]
      · by_cases l : k2 < k
        · rw [if_pos l, if_pos (by omega)]
        · rw [if_neg l, if_neg (by omega)]
    · have e := (hb k hk).mp (tj_nf z)
      have hd : (k = k1 ∧ tj_dn k1 k2 k = 0 ∧ tj_dn k1 k2 (k + 1) = 1) ∨ (k = k2 ∧ tj_dn k1 k2 k = 1 ∧ tj_dn k1 k2 (k + 1) = 2) := by
        rcases e with e | e
        · exact Or.inl ⟨e, tj_dn0 h12 (by omega), tj_dn1 (by omega) (by omega)⟩
        · exact Or.inr ⟨e, tj_dn1 (by omega) (by omega), tj_dn2 h12 (by omega)⟩
      generalize hdd : tj_dn k1 k2 k = d at hd g1
      have hd2 : d < 2 ∧ tj_dn k1 k2 (k + 1) = d + 1 := by omega
      have ei : (3 : Int32) * nI i + s19 (nI i).toNatClampNeg = nI (3 * i + d) := by rw [c4, g1]; exact tj_ix 3 i d
      refine ⟨v4, vp_in_nI (by omega) (by decide), pk_in (3 * i + d) 12 (by omega) ei, ?_⟩
      refine nm_r (e' := upd s20 (3 * i + d) (nI (od k))) (by rw [ei, nI_clamp (by omega), ck, tj_v8 (by omega)]) ⟨v4, v4, ?_⟩
      refine nm_r (e' := upd s19 i (nI (d + 1))) (by rw [c4, g1, nI_1, tj_i8 _ (by omega)]) (nm_r (nI_1 k) (hw (_, _) ⟨?_, fun h => ?_, fun h => ?_, fun j hj => ?_, fun x hx => ?_⟩))
      · show upd s19 i _ i = _
        rw [pk_us, hd2.2]
      · show upd s20 _ _ _ = _
        by_cases e0 : d = 0
        · rw [e0, Nat.add_zero, pk_us, show k = k1 by omega]
        · rw [pk_un (by omega)]; exact g2 (by omega)
      · show upd s20 _ _ _ = _
        rw [show d = 1 by omega, pk_us, show k = k2 by omega]
      · show upd s19 i _ j = _
        rw [pk_un hj]; exact g4 j hj
      · show upd s20 _ _ x = _
        rw [pk_un (by omega)]; exact g5 x hx
theorem tw_bt96 {post : St2 → Prop} {i k p q u v c : Nat} {L : Nat → Nat} (hi : i < 4) (hk : k < 8) (hL : tj_LQ a7 a8 i c L) (hat : tj_AT a4 a5 k p q) (huv : (u = p ∧ v = q) ∨ (u = q ∧ v = p)) (h19 : a19 i = nI 2) (h200 : a20 (3 * i) = nI u) (h201 : a20 (3 * i + 1) = nI v) (hD : tj_DG a15)
    (H : ∀ b15 b21 n Z, tj_DG b15 → n ≤ 16 → tj_SR b21 i n Z → tj_SM n Z → (∀ t, (∃ r, r < n ∧ Z r = t) ↔ ∃ r, r < c ∧ tj_b (a9 i) r = true ∧ tj_zz u p (L r) = t) → (∀ x, (x < 48 * i ∨ 48 * i + 48 ≤ x) → b21 x = a21 x) → post (lv, qu, ai, st, fo, an, bo, tc, oc, ac, a1, a2, a3, a4, a5, a6, a7, a8, a9, a10, a11, a12, a13, a14, b15, a16, a17, a18, a19, a20, b21, (upd a22 (4 * i) 0), (upd a23 (4 * i) (nI n)), (upd a24 i 0), a25)) :
    ∃ n, wX_buildTrie_96 post (nI i) (nI k) n 0 0 lv qu ai st fo an bo tc oc ac a1 a2 a3 a4 a5 a6 a7 a8 a9 a10 a11 a12 a13 a14 a15 a16 a17 a18 a19 a20 a21 a22 a23 a24 a25 := by
  obtain ⟨h7, hc, h8⟩ := hL
  have v4 : vp_in (nI i) 4 := vp_in_nI hi (by decide)
  have c4 : (nI i).toNatClampNeg = i := nI_clamp (by omega)
  have e7 : a7 (nI i).toNatClampNeg = nI c := by rw [c4]; exact h7
  have e44 : ((4 : Int32) * nI i) = nI (4 * i) := pk_mul 4 i
  refine pk_loop (fun n r (s : (Nat → Int32) × (Nat → Int32)) => wX_buildTrie_96 post (nI i) (nI k) n (nI (tj_cnt (tj_b (a9 i)) r)) (nI r) lv qu ai st fo an bo tc oc ac a1 a2 a3 a4 a5 a6 a7 a8 a9 a10 a11 a12 a13 a14 s.1 a16 a17 a18 a19 a20 s.2 a22 a23 a24 a25) (fun r s => tj_DG s.1 ∧ (∃ Z, tj_SR s.2 i (tj_cnt (tj_b (a9 i)) r) Z ∧ tj_SM (tj_cnt (tj_b (a9 i)) r) Z ∧ (∀ t, (∃ x, x < tj_cnt (tj_b (a9 i)) r ∧ Z x = t) ↔ ∃ x, x < r ∧ tj_b (a9 i) x = true ∧ tj_zz u p (L x) = t)) ∧ (∀ x, (x < 48 * i ∨ 48 * i + 48 ≤ x) → s.2 x = a21 x)) c 0 (a15, a21) (by omega) ?_ ?_ ?_
  · refine ⟨hD, ⟨fun _ => 0, fun r hr => absurd hr (Nat.not_lt_zero r), fun r s _ hs => absurd hs (Nat.not_lt_zero s), fun t => ⟨?_, ?_⟩⟩, fun x _ => rfl⟩
    · rintro ⟨x, hx, _⟩; exact absurd hx (Nat.not_lt_zero x)
    · rintro ⟨x, hx, _⟩; exact absurd hx (Nat.not_lt_zero x)
  · intro n s hs
    obtain ⟨s15, s21⟩ := s
    obtain ⟨g1, ⟨Z, g2, g3, g4⟩, g5⟩ := hs
    have hle := tj_cnt_le (tj_b (a9 i)) c
    show wX_buildTrie_96 post (nI i) (nI k) (n + 1) (nI (tj_cnt (tj_b (a9 i)) c)) (nI c) lv qu ai st fo an bo tc oc ac a1 a2 a3 a4 a5 a6 a7 a8 a9 a10 a11 a12 a13 a14 s15 a16 a17 a18 a19 a20 s21 a22 a23 a24 a25
    refine ⟨v4, pk_le c c (fun _ => ⟨v4, nm_r (e' := upd a24 i 0) (by rw [c4]) ⟨pk_in (4 * i) 16 (by omega) e44, nm_r (e' := upd a22 (4 * i) 0) (by rw [e44, nI_clamp (by omega)]) ⟨pk_in (4 * i) 16 (by omega) e44, nm_r (e' := upd a23 (4 * i) (nI (tj_cnt (tj_b (a9 i)) c))) (by rw [e44, nI_clamp (by omega), tj_i8 _ (by omega)]) ?_⟩⟩⟩) (fun z => absurd z (by omega)) e7⟩
    exact H s15 s21 _ Z g1 (by omega) g2 g3 g4 g5
  · intro n r s hr hs hw
    obtain ⟨s15, s21⟩ := s
    obtain ⟨g1, ⟨Z, g2, g3, g4⟩, g5⟩ := hs
    dsimp only at g1 g2 g3 g4 g5
    show wX_buildTrie_96 post (nI i) (nI k) (n + 1) (nI (tj_cnt (tj_b (a9 i)) r)) (nI r) lv qu ai st fo an bo tc oc ac a1 a2 a3 a4 a5 a6 a7 a8 a9 a10 a11 a12 a13 a14 s15 a16 a17 a18 a19 a20 s21 a22 a23 a24 a25
    obtain ⟨l1, l2⟩ := h8 r hr
    have hle := tj_cnt_le (tj_b (a9 i)) r
    have cond : (((a9 (nI i).toNatClampNeg >>> (nI r &&& 31)) &&& 1) = 0) ↔ tj_b (a9 i) r = false := by rw [c4]; exact tj_b0 _ (by omega)
    refine ⟨v4, pk_le c r (fun z => absurd z (by omega)) (fun _ => ⟨v4, ek_if cond (fun z => ?_) (fun z => ?_)⟩) e7⟩
    · refine nm_r (nI_1 r) ?_
      have t := hw (s15, s21) ⟨g1, ⟨Z, ?_, ?_, fun t => ?_⟩, g5⟩
      · try dsimp only at t
        rw [tj_cnt_f z] at t
        exact t
      · rw [tj_cnt_f z]; exact g2
      · rw [tj_cnt_f z]; exact g3
      · rw [tj_cnt_f z]
        refine (g4 t).trans ⟨?_, ?_⟩
        · rintro ⟨x, h1, h2⟩; exact ⟨x, by omega, h2⟩
        · rintro ⟨x, h1, h2, h3⟩
          have : x ≠ r := fun e => by rw [e, z] at h2; exact absurd h2 (by decide)
          exact ⟨x, by omega, h2, h3⟩
    · have z' := tj_nf z
      have e8 : a8 ((16 : Int32) * nI i + nI r).toNatClampNeg = nI (L r) := by rw [pk_cl (16 * i + r) (show (16 : Int32) * nI i + nI r = _ from tj_ix 16 i r) (by omega)]; exact l2
      refine ⟨pk_in (16 * i + r) 64 (by omega) (tj_ix 16 i r), ?_⟩
      refine tw_sortIn (p := p) (q := q) (u := u) (v := v) (row := L r) (n := tj_cnt (tj_b (a9 i)) r) (Z := Z) rfl rfl e8 rfl hi hk l1 (by omega) hat huv h19 h200 h201 g1 g2 g3 (fun b15 b21 Z' k1 k2 k3 k4 k5 => nm_r (nI_1 _) (nm_r (nI_1 r) ?_))
      have t := hw (b15, b21) ⟨k1, ⟨Z', ?_, ?_, fun t => ?_⟩, fun x hx => ?_⟩
      · try dsimp only at t
        rw [tj_cnt_t z'] at t
        exact t
      · rw [tj_cnt_t z']; exact k2
      · rw [tj_cnt_t z']; exact k3
      · rw [tj_cnt_t z']
        refine (k4 t).trans ⟨?_, ?_⟩
        · rintro (h | h)
          · exact ⟨r, by omega, z', h.symm⟩
          · obtain ⟨x, h1, h2⟩ := (g4 t).mp h
            exact ⟨x, by omega, h2⟩
        · rintro ⟨x, h1, h2, h3⟩
          by_cases e : x = r
          · rw [e] at h3; exact Or.inl h3.symm
          · exact Or.inr ((g4 t).mpr ⟨x, by omega, h2, h3⟩)
      · show b21 x = _
        rw [k5 x hx]; exact g5 x hx
theorem tj_two (p q v : Nat) : (2 ^ p ||| 2 ^ q).testBit v = true ↔ (v = p ∨ v = q) := by
  rw [Nat.testBit_or, Nat.testBit_two_pow, Nat.testBit_two_pow, Bool.or_eq_true, decide_eq_true_iff, decide_eq_true_iff]
  omega
theorem tw_buildTrie {post : St2 → Prop} {x : Int32} {i q p v c th w M A k1 k2 : Nat} {L od ps : Nat → Nat} (hx : x = nI i) (hi : i < 4) (hqu : qu = nI q) (hq : q < 2) (hoc : oc = nI M) (hop : tj_OP th w M A od ps) (h18 : ∀ k, k < M → a18 k = nI (od k)) (hat : tj_AT a4 a5 (4 * q + i) p v) (hp : th.testBit p = true) (hv : th.testBit v = true) (hL : tj_LQ a7 a8 i c L) (hD : tj_DG a15) (h12 : k1 < k2) (hk : (k1 = ps p ∧ k2 = ps v) ∨ (k1 = ps v ∧ k2 = ps p))
    (H : ∀ b15 b19 b20 b21 b22 b23 b24 n Z, tj_DG b15 → tj_TR b19 b20 b21 b22 b23 b24 i (od k1) (od k2) n Z → (∀ t, (∃ r, r < n ∧ Z r = t) ↔ ∃ r, r < c ∧ tj_b (a9 i) r = true ∧ tj_zz (od k1) p (L r) = t) → tj_FR i a19 a20 a21 a22 a23 a24 b19 b20 b21 b22 b23 b24 → post (lv, qu, ai, st, fo, an, bo, tc, oc, ac, a1, a2, a3, a4, a5, a6, a7, a8, a9, a10, a11, a12, a13, a14, b15, a16, a17, a18, b19, b20, b21, b22, b23, b24, a25)) : wpX_buildTrie post (lv, qu, ai, st, fo, an, bo, tc, oc, ac, a1, a2, a3, a4, a5, a6, a7, a8, a9, a10, a11, a12, a13, a14, a15, a16, a17, a18, a19, a20, a21, a22, a23, a24, a25) x := by
  subst hx hqu hoc
  have hat' := hat
  obtain ⟨-, -, -, -, hp5, hv5, hne⟩ := hat'
  obtain ⟨o1, o2, o3, o4⟩ := hop
  obtain ⟨q1, q2⟩ := o2 p hp5 hp
  obtain ⟨q3, q4⟩ := o2 v hv5 hv
  have huv : (od k1 = p ∧ od k2 = v) ∨ (od k1 = v ∧ od k2 = p) := by
    rcases hk with ⟨e1, e2⟩ | ⟨e1, e2⟩
    · exact Or.inl ⟨by rw [e1, q2], by rw [e2, q4]⟩
    · exact Or.inr ⟨by rw [e1, q4], by rw [e2, q2]⟩
  have h2M : k2 < M := by omega
  have c4 : (nI i).toNatClampNeg = i := nI_clamp (by omega)
  refine nm_r (tj_ix 4 q i) (tw_vAtom (k := 4 * q + i) rfl (by omega) hat ⟨vp_in_nI hi (by decide), nm_r (e' := upd a19 i 0) (by rw [c4]) ?_⟩)
  refine tw_bt25 (M := M) (k1 := k1) (k2 := k2) (od := od) hi rfl o4 h18 (fun k h => (o1 k h).1) (fun j hj => ?_) h12 h2M pk_us (fun b19 b20 g1 g2 g3 g4 g5 => ?_)
  · rw [tj_two]
    have oj := (o1 j hj).2.2.1
    constructor
    · rintro (e | e)
      · rw [e] at oj; omega
      · rw [e] at oj; omega
    · intro e
      rcases e with e | e
      · rw [e]; omega
      · rw [e]; omega
  · refine tw_bt96 (u := od k1) (v := od k2) hi (by omega) hL hat huv g1 g2 g3 hD (fun b15 b21 n Z k1' k2' k3' k4' k5' k6' => ?_)
    refine H b15 b19 b20 b21 _ _ _ n Z k1' ⟨g1, g2, g3, k3', k4', k2', pk_us, pk_us, pk_us⟩ k5' ⟨fun j hj => ?_, g5, k6', fun x hx => pk_un (by omega), fun x hx => pk_un (by omega), fun j hj => pk_un hj⟩
    rw [g4 j hj, pk_un hj]
end
end
section
/-- the present part of atom i's trie: depth d, rows from lo to hi, their next values V -/
def tj_PT (a21 a22 a23 a24 : Nat → Int32) (i d lo hi : Nat) (V : Nat → Nat) : Prop := a24 i = nI d ∧ d < 2 ∧ a22 (4 * i + d) = nI lo ∧ a23 (4 * i + d) = nI hi ∧ lo ≤ hi ∧ hi ≤ 16 ∧ (∀ r, lo ≤ r → r < hi → a21 (48 * i + 16 * d + r) = nI (V r) ∧ V r < 5) ∧ (∀ r s, lo ≤ r → r ≤ s → s < hi → V r ≤ V s)
section
variable {lv qu ai st fo an bo tc oc ac : Int32} {a1 : Nat → Int64} {a2 : Nat → Int32} {a3 : Nat → Int32} {a4 : Nat → Int32} {a5 : Nat → Int32} {a6 : Nat → Int32} {a7 : Nat → Int32} {a8 : Nat → Int32} {a9 : Nat → Int32} {a10 : Nat → Int64} {a11 : Nat → Int64} {a12 : Nat → Int64} {a13 : Nat → Int32} {a14 : Nat → Int32} {a15 : Nat → Int32} {a16 : Nat → Int32} {a17 : Nat → Int32} {a18 : Nat → Int32} {a19 : Nat → Int32} {a20 : Nat → Int32} {a21 : Nat → Int32} {a22 : Nat → Int32} {a23 : Nat → Int32} {a24 : Nat → Int32} {a25 : Nat → Int32}
theorem tw_seek {post : Int32 → Prop} {x y : Int32} {i d lo hi v : Nat} {V : Nat → Nat} (ex : x = nI i) (ey : y = nI v) (hi4 : i < 4) (hv : v < 6) (hp : tj_PT a21 a22 a23 a24 i d lo hi V)
    (H : ∀ r, lo ≤ r → r ≤ hi → (∀ s, lo ≤ s → s < r → V s < v) → (∀ s, r ≤ s → s < hi → v ≤ V s) → post (nI r)) : wpX_seek post (lv, qu, ai, st, fo, an, bo, tc, oc, ac, a1, a2, a3, a4, a5, a6, a7, a8, a9, a10, a11, a12, a13, a14, a15, a16, a17, a18, a19, a20, a21, a22, a23, a24, a25) x y := by
  subst ex ey
  obtain ⟨h24, hd, h22, h23, hlh, hh, hV, hM⟩ := hp
  have c4 : (nI i).toNatClampNeg = i := nI_clamp (by omega)
  have ei : (4 : Int32) * nI i + nI d = nI (4 * i + d) := tj_ix 4 i d
  have ci : ((4 : Int32) * nI i + nI d).toNatClampNeg = 4 * i + d := by rw [ei]; exact nI_clamp (by omega)
  have vi : vp_in ((4 : Int32) * nI i + nI d) 16 := pk_in (4 * i + d) 16 (by omega) ei
  refine ⟨vp_in_nI hi4 (by decide), nm_r (e' := nI d) (by rw [c4]; exact h24) ⟨vi, nm_r (e' := nI lo) (by rw [ci]; exact h22) ⟨vi, nm_r (e' := nI hi) (by rw [ci]; exact h23) ?_⟩⟩⟩
  refine loop_m (fun n (s : Nat × Nat) => wX_seek_31 post (nI i) (nI v) (nI d) lv qu ai st fo an bo tc oc ac a1 a2 a3 a4 a5 a6 a7 a8 a9 a10 a11 a12 a13 a14 a15 a16 a17 a18 a19 a20 a21 a22 a23 a24 a25 n (nI s.1) (nI s.2)) (fun s => lo ≤ s.1 ∧ s.1 ≤ s.2 ∧ s.2 ≤ hi ∧ (∀ t, lo ≤ t → t < s.1 → V t < v) ∧ (∀ t, s.2 ≤ t → t < hi → v ≤ V t)) (fun s => s.2 - s.1) ?_ (lo, hi) ⟨Nat.le_refl _, hlh, Nat.le_refl _, fun t h1 h2 => absurd h1 (Nat.not_le.mpr h2), fun t h1 h2 => absurd h1 (Nat.not_le.mpr h2)⟩
  intro n s hs hw
  obtain ⟨f, t⟩ := s
  obtain ⟨g1, g2, g3, g4, g5⟩ := hs
  dsimp only at g1 g2 g3 g4 g5
  refine pk_le t f (fun z => ?_) (fun z => ⟨by decide, nm_r (e' := nI ((f + t) / 2)) ?_ ?_⟩)
  · have e : f = t := by omega
    exact H f g1 (by omega) g4 (fun s h1 h2 => g5 s (by omega) h2)
  · show (nI f + nI t) / nI 2 = _
    rw [nI_add, pk_div (by omega) (by decide) (by decide)]
  · obtain ⟨b1, b2⟩ := hV ((f + t) / 2) (by omega) (by omega)
    refine tw_trieAt (d := d) rfl rfl rfl (by omega) ?_
    refine pk_le v (V ((f + t) / 2)) (fun z2 => hw (f, (f + t) / 2) ⟨g1, by dsimp only; omega, by dsimp only; omega, g4, fun s h1 h2 => ?_⟩ (by dsimp only; omega)) (fun z2 => nm_r (nI_1 _) (hw ((f + t) / 2 + 1, t) ⟨by dsimp only; omega, by dsimp only; omega, g3, fun s h1 h2 => ?_, g5⟩ (by dsimp only; omega))) rfl b1
    · exact Nat.le_trans z2 (hM _ s (by omega) h1 h2)
    · have := hM s ((f + t) / 2) h1 (by dsimp only at h2; omega) (by omega)
      omega
/-- whether atom i waits for the variable v -/
theorem tw_waits {post : Int32 → Prop} {x y : Int32} {i m d v u0 u1 : Nat} (ex : x = nI i) (ey : y = nI v) (hi4 : i < 4) (hai : ai = nI m) (hv : v < 5) (hu0 : u0 < 5) (hu1 : u1 < 5) (h24 : m.testBit i = true → a24 i = nI d ∧ d ≤ 2 ∧ a19 i = nI 2 ∧ a20 (3 * i) = nI u0 ∧ a20 (3 * i + 1) = nI u1)
    (H1 : m.testBit i = true → ((d = 0 ∧ u0 = v) ∨ (d = 1 ∧ u1 = v)) → post 1) (H0 : ¬ (m.testBit i = true ∧ ((d = 0 ∧ u0 = v) ∨ (d = 1 ∧ u1 = v))) → post 0) : wpX_waitsFor post (lv, qu, ai, st, fo, an, bo, tc, oc, ac, a1, a2, a3, a4, a5, a6, a7, a8, a9, a10, a11, a12, a13, a14, a15, a16, a17, a18, a19, a20, a21, a22, a23, a24, a25) x y := by
  subst ex ey hai
  have c4 : (nI i).toNatClampNeg = i := nI_clamp (by omega)
  have v4 : vp_in (nI i) 4 := vp_in_nI hi4 (by decide)
  refine ek_if (tj_b0 (nI m) (show i < 32 by omega)) (fun z => H0 (fun g => ?_)) (fun z => ⟨v4, v4, ?_⟩)
  · rw [tj_nI m (by omega), g.1] at z
    exact absurd z (by decide)
  · have hb := tj_nf z
    rw [tj_nI m (by omega)] at hb
    obtain ⟨g1, g2, g3, g4, g5⟩ := h24 hb
    have e24 : a24 (nI i).toNatClampNeg = nI d := by rw [c4]; exact g1
    have e19 : a19 (nI i).toNatClampNeg = nI 2 := by rw [c4]; exact g3
    refine pk_lt d 2 (fun l => ⟨v4, ?_⟩) (fun l => H0 (fun g => by omega)) e24 e19
    have ei : (3 : Int32) * nI i + a24 (nI i).toNatClampNeg = nI (3 * i + d) := by rw [e24]; exact tj_ix 3 i d
    refine ⟨pk_in (3 * i + d) 12 (by omega) ei, ?_⟩
    rw [ei, nI_clamp (show 3 * i + d < 2 ^ 31 by omega)]
    rcases (show d = 0 ∨ d = 1 by omega) with e | e
    · subst e
      exact pk_eq u0 v (fun e => H1 hb (Or.inl ⟨rfl, e⟩)) (fun e => H0 (fun g => by omega)) g4
    · subst e
      exact pk_eq u1 v (fun e => H1 hb (Or.inr ⟨rfl, e⟩)) (fun e => H0 (fun g => by omega)) g5
/-- one pass over the atoms -/
theorem tw_pass {post : Int32 → Prop} {J : Int32 → Int32 → Prop} {v f w0 : Nat} {C : Nat → Nat → Prop} {wt : Nat → Prop} (hw5 : w0 < 6)
    (h : ∀ i, i < 4 → (¬ wt i ∧ ∀ φ : Int32 → Prop, φ 0 → wpX_waitsFor φ (lv, qu, ai, st, fo, an, bo, tc, oc, ac, a1, a2, a3, a4, a5, a6, a7, a8, a9, a10, a11, a12, a13, a14, a15, a16, a17, a18, a19, a20, a21, a22, a23, a24, a25) (nI i) (nI v)) ∨ (wt i ∧ (∀ φ : Int32 → Prop, φ 1 → wpX_waitsFor φ (lv, qu, ai, st, fo, an, bo, tc, oc, ac, a1, a2, a3, a4, a5, a6, a7, a8, a9, a10, a11, a12, a13, a14, a15, a16, a17, a18, a19, a20, a21, a22, a23, a24, a25) (nI i) (nI v)) ∧ ∃ d lo hi V, tj_PT a21 a22 a23 a24 i d lo hi V ∧ ∀ x, C i x ↔ ∃ r, lo ≤ r ∧ r < hi ∧ V r = x))
    (hno : ∀ y, f ≤ y → y < w0 → ¬ ∀ i, i < 4 → wt i → C i y)
    (H0 : (∀ y, f ≤ y → ¬ ∀ i, i < 4 → wt i → C i y) → post (-1))
    (HJ : ∀ (w : Nat) (g : Bool), w0 ≤ w → w < 6 → (∀ y, f ≤ y → y < w → ¬ ∀ i, i < 4 → wt i → C i y) → (g = true → w = w0 ∧ ∀ i, i < 4 → wt i → C i w0) → (g = false → w0 < w) → J (nI w) (if g = true then 1 else 0)) :
    ∃ n, wX_commonValue_16 post J (nI v) lv qu ai st fo an bo tc oc ac a1 a2 a3 a4 a5 a6 a7 a8 a9 a10 a11 a12 a13 a14 a15 a16 a17 a18 a19 a20 a21 a22 a23 a24 a25 n (nI w0) 1 0 := by
  refine pk_loop (fun n i (s : Nat × Bool) => wX_commonValue_16 post J (nI v) lv qu ai st fo an bo tc oc ac a1 a2 a3 a4 a5 a6 a7 a8 a9 a10 a11 a12 a13 a14 a15 a16 a17 a18 a19 a20 a21 a22 a23 a24 a25 n (nI s.1) (if s.2 = true then 1 else 0) (nI i)) (fun i s => w0 ≤ s.1 ∧ s.1 < 6 ∧ (∀ y, f ≤ y → y < s.1 → ¬ ∀ i, i < 4 → wt i → C i y) ∧ (s.2 = true → s.1 = w0 ∧ ∀ j, j < i → wt j → C j w0) ∧ (s.2 = false → w0 < s.1)) 4 0 (w0, true) (by omega) ⟨Nat.le_refl _, hw5, hno, fun _ => ⟨rfl, fun j hj => absurd hj (by omega)⟩, fun z => absurd (show true = false from z) (by decide)⟩ ?_ ?_
  · intro n s hs
    obtain ⟨g1, g2, g3, g4, g5⟩ := hs
    exact br_t (by decide) (HJ s.1 s.2 g1 g2 g3 g4 g5)
  · intro n i s hi hs hw
    obtain ⟨w, g⟩ := s
    obtain ⟨g1, g2, g3, g4, g5⟩ := hs
    dsimp only at g1 g2 g3 g4 g5
    have c4 : (nI i).toNatClampNeg = i := nI_clamp (by omega)
    have v4 : vp_in (nI i) 4 := vp_in_nI hi (by decide)
    refine br_f (nI_ge (b := 4) hi (by decide)) ?_
    rcases h i hi with ⟨hn, hφ⟩ | ⟨hy, hφ, d, lo, hi', V, hp, hC⟩
    · refine hφ _ (br_t rfl (nm_r (nI_1 i) (hw (w, g) ⟨g1, g2, g3, fun e => ⟨(g4 e).1, fun j hj hj2 => ?_⟩, g5⟩)))
      by_cases e2 : j = i
      · rw [e2] at hj2; exact absurd hj2 hn
      · exact (g4 e).2 j (by omega) hj2
    · refine hφ _ (br_f (by decide) ?_)
      refine tw_seek rfl rfl hi g2 hp (fun r r1 r2 r3 r4 => ?_)
      obtain ⟨p24, pd, p22, p23, plh, ph, pV, pM⟩ := hp
      have e24 : a24 (nI i).toNatClampNeg = nI d := by rw [c4]; exact p24
      have ei : (4 : Int32) * nI i + a24 (nI i).toNatClampNeg = nI (4 * i + d) := by rw [e24]; exact tj_ix 4 i d
      have e23 : a23 ((4 : Int32) * nI i + a24 (nI i).toNatClampNeg).toNatClampNeg = nI hi' := by rw [ei, nI_clamp (by omega)]; exact p23
      refine ⟨v4, pk_in (4 * i + d) 16 (by omega) ei, pk_lt r hi' (fun l => ⟨v4, ?_⟩) (fun l => H0 (fun y hy1 hall => ?_)) rfl e23⟩
      · obtain ⟨b1, b2⟩ := pV r r1 l
        have b3 := r4 r (Nat.le_refl r) l
        have hno' : ∀ y, f ≤ y → y < V r → ¬ ∀ i, i < 4 → wt i → C i y := by
          intro y hy1 hy2 hall
          by_cases e : y < w
          · exact g3 y hy1 e hall
          · obtain ⟨r', q1, q2, q3⟩ := (hC y).mp (hall i hi hy)
            have hr' : r ≤ r' := by
              rcases Nat.lt_or_ge r' r with a | a
              · have := r3 r' q1 a; omega
              · exact a
            have := pM r r' r1 hr' q2
            omega
        refine tw_trieAt (i := i) (d := d) (r := r) rfl e24 rfl (by omega) ?_
        refine pk_le (V r) w (fun z => nm_r (nI_1 i) ?_) (fun z => nm_r (nI_1 i) ?_) b1
        · have e : V r = w := by omega
          rw [b1, e]
          refine hw (w, g) ⟨g1, g2, g3, fun e2 => ⟨(g4 e2).1, fun j hj hj2 => ?_⟩, g5⟩
          by_cases e3 : j = i
          · rw [e3, ← (g4 e2).1]
            exact (hC w).mpr ⟨r, r1, l, e⟩
          · exact (g4 e2).2 j (by omega) hj2
        · rw [b1]
          exact hw (V r, false) ⟨by dsimp only; omega, by dsimp only; omega, hno', fun e2 => absurd (show false = true from e2) (by decide), fun _ => by dsimp only; omega⟩
      · by_cases e : y < w
        · exact g3 y hy1 e hall
        · obtain ⟨r', q1, q2, q3⟩ := (hC y).mp (hall i hi hy)
          have := r3 r' q1 (by omega)
          omega
theorem tw_common {post : Int32 → Prop} {x y : Int32} {v f : Nat} {C : Nat → Nat → Prop} {wt : Nat → Prop} (ex : x = nI v) (ey : y = nI f) (hf : f < 6)
    (h : ∀ i, i < 4 → (¬ wt i ∧ ∀ φ : Int32 → Prop, φ 0 → wpX_waitsFor φ (lv, qu, ai, st, fo, an, bo, tc, oc, ac, a1, a2, a3, a4, a5, a6, a7, a8, a9, a10, a11, a12, a13, a14, a15, a16, a17, a18, a19, a20, a21, a22, a23, a24, a25) (nI i) (nI v)) ∨ (wt i ∧ (∀ φ : Int32 → Prop, φ 1 → wpX_waitsFor φ (lv, qu, ai, st, fo, an, bo, tc, oc, ac, a1, a2, a3, a4, a5, a6, a7, a8, a9, a10, a11, a12, a13, a14, a15, a16, a17, a18, a19, a20, a21, a22, a23, a24, a25) (nI i) (nI v)) ∧ ∃ d lo hi V, tj_PT a21 a22 a23 a24 i d lo hi V ∧ ∀ x, C i x ↔ ∃ r, lo ≤ r ∧ r < hi ∧ V r = x))
    (hex : ∃ i, i < 4 ∧ wt i)
    (H1 : ∀ t, f ≤ t → t < 5 → (∀ i, i < 4 → wt i → C i t) → (∀ y, f ≤ y → y < t → ¬ ∀ i, i < 4 → wt i → C i y) → post (nI t))
    (H0 : (∀ y, f ≤ y → ¬ ∀ i, i < 4 → wt i → C i y) → post (-1)) : wpX_commonValue post (lv, qu, ai, st, fo, an, bo, tc, oc, ac, a1, a2, a3, a4, a5, a6, a7, a8, a9, a10, a11, a12, a13, a14, a15, a16, a17, a18, a19, a20, a21, a22, a23, a24, a25) x y := by
  subst ex ey
  refine loop_m (fun n (s : Nat × Bool) => wX_commonValue_5 post (nI v) lv qu ai st fo an bo tc oc ac a1 a2 a3 a4 a5 a6 a7 a8 a9 a10 a11 a12 a13 a14 a15 a16 a17 a18 a19 a20 a21 a22 a23 a24 a25 n (nI s.1) (if s.2 = true then 1 else 0)) (fun s => f ≤ s.1 ∧ s.1 < 6 ∧ (∀ y, f ≤ y → y < s.1 → ¬ ∀ i, i < 4 → wt i → C i y) ∧ (s.2 = true → ∀ i, i < 4 → wt i → C i s.1)) (fun s => if s.2 = true then 0 else 7 - s.1) ?_ (f, false) ⟨Nat.le_refl _, hf, fun y h1 h2 => absurd h1 (Nat.not_le.mpr h2), fun z => absurd (show false = true from z) (by decide)⟩
  intro n s hs hw
  obtain ⟨w, g⟩ := s
  obtain ⟨g1, g2, g3, g4⟩ := hs
  dsimp only at g1 g2 g3 g4
  cases g with
  | true =>
    refine br_f (show ¬ ((1 : Int32) = 0) by decide) ?_
    refine H1 w g1 ?_ (g4 rfl) g3
    obtain ⟨i, hi, hwt⟩ := hex
    rcases h i hi with ⟨hn, _⟩ | ⟨_, _, d, lo, hi', V, hp, hC⟩
    · exact absurd hwt hn
    · obtain ⟨r, q1, q2, q3⟩ := (hC w).mp (g4 rfl i hi hwt)
      have := (hp.2.2.2.2.2.2.1 r q1 q2).2
      omega
  | false =>
    refine br_t (show (0 : Int32) = 0 from rfl) ?_
    refine tw_pass (C := C) (wt := wt) (f := f) g2 h g3 H0 (fun w' g' k1 k2 k3 k4 k5 => hw (w', g') ⟨by dsimp only; omega, k2, k3, fun e => ?_⟩ ?_)
    · dsimp only
      rw [(k4 e).1]
      exact (k4 e).2
    · dsimp only
      cases g' with
      | true => rw [if_pos rfl, if_neg (by decide)]; omega
      | false => rw [if_neg (by decide), if_neg (by decide)]; have := k5 rfl; omega
end
end
section
/-- atom j, its variables at the places k1 < k2 of the order, while the first d places have the values s -/
def tj_PJ (k1 k2 n : Nat) (Z : Nat → Nat) (a22 a23 a24 : Nat → Int32) (j d : Nat) (s : Nat → Nat) : Prop := a24 j = nI (tj_dn k1 k2 d) ∧ a22 (4 * j) = nI 0 ∧ a23 (4 * j) = nI n ∧ (k1 < d → ∃ lo hi, a22 (4 * j + 1) = nI lo ∧ a23 (4 * j + 1) = nI hi ∧ lo ≤ hi ∧ hi ≤ n ∧ ∀ r, r < n → ((lo ≤ r ∧ r < hi) ↔ Z r / 5 = s k1)) ∧ (k2 < d → ∃ r, r < n ∧ Z r = 5 * s k1 + s k2)
/-- the values that atom j allows at the place d -/
def tj_CJ (k1 k2 n : Nat) (Z : Nat → Nat) (d : Nat) (s : Nat → Nat) (x : Nat) : Prop := (k1 = d → ∃ r, r < n ∧ Z r / 5 = x) ∧ (k2 = d → x < 5 ∧ ∃ r, r < n ∧ Z r = 5 * s k1 + x)
theorem tj_dn_up {k1 k2 d : Nat} (h1 : k1 ≠ d) (h2 : k2 ≠ d) : tj_dn k1 k2 (d + 1) = tj_dn k1 k2 d := by
  unfold tj_dn
  congr 1
  · by_cases l : k1 < d
    · rw [if_pos l, if_pos (by omega)]
    · rw [if_neg l, if_neg (by omega)]
  · by_cases l : k2 < d
    · rw [if_pos l, if_pos (by omega)]
    · rw [if_neg l, if_neg (by omega)]
theorem tj_PJ_skip {k1 k2 n j d : Nat} {Z s s' : Nat → Nat} {a22 a23 a24 : Nat → Int32} (h12 : k1 < k2) (h : tj_PJ k1 k2 n Z a22 a23 a24 j d s) (h1 : k1 ≠ d) (h2 : k2 ≠ d) (hs : ∀ k, k < d → s' k = s k) : tj_PJ k1 k2 n Z a22 a23 a24 j (d + 1) s' := by
  obtain ⟨g1, g2, g3, g4, g5⟩ := h
  refine ⟨by rw [tj_dn_up h1 h2]; exact g1, g2, g3, fun l => ?_, fun l => ?_⟩
  · rw [hs k1 (by clear g4 g5; omega)]; exact g4 (by clear g4 g5; omega)
  · rw [hs k2 (by clear g4 g5; omega), hs k1 (by clear g4 g5; omega)]
    exact g5 (by clear g4 g5; omega)
theorem tj_PJ_keep {k1 k2 n j d : Nat} {Z s : Nat → Nat} {a22 a23 a24 b22 b23 b24 : Nat → Int32} (h : tj_PJ k1 k2 n Z a22 a23 a24 j d s) (e22 : ∀ x, 4 * j ≤ x → x < 4 * j + 4 → b22 x = a22 x) (e23 : ∀ x, 4 * j ≤ x → x < 4 * j + 4 → b23 x = a23 x) (e24 : b24 j = a24 j) : tj_PJ k1 k2 n Z b22 b23 b24 j d s := by
  obtain ⟨g1, g2, g3, g4, g5⟩ := h
  refine ⟨by rw [e24]; exact g1, by rw [e22 _ (by omega) (by omega)]; exact g2, by rw [e23 _ (by omega) (by omega)]; exact g3, fun l => ?_, g5⟩
  rw [e22 _ (by omega) (by omega), e23 _ (by omega) (by omega)]
  exact g4 l
/-- the part of an atom that waits -/
theorem tj_PJ_PT {k1 k2 n j d : Nat} {Z s : Nat → Nat} {a21 a22 a23 a24 : Nat → Int32} (h12 : k1 < k2) (h : tj_PJ k1 k2 n Z a22 a23 a24 j d s) (hS : tj_SR a21 j n Z) (hM : tj_SM n Z) (hn : n ≤ 16) (hw : k1 = d ∨ k2 = d) :
    ∃ e lo hi V, tj_PT a21 a22 a23 a24 j e lo hi V ∧ e = tj_dn k1 k2 d ∧ (∀ x, tj_CJ k1 k2 n Z d s x ↔ ∃ r, lo ≤ r ∧ r < hi ∧ V r = x) ∧ (k1 = d → lo = 0 ∧ hi = n ∧ ∀ r, V r = Z r / 5) := by
  obtain ⟨g1, g2, g3, g4, g5⟩ := h
  rcases hw with e | e
  · have e0 : tj_dn k1 k2 d = 0 := tj_dn0 h12 (by omega)
    rw [e0] at g1
    refine ⟨0, 0, n, fun r => Z r / 5, ⟨g1, by decide, g2, g3, Nat.zero_le _, hn, fun r _ hr => ⟨?_, ?_⟩, fun r t _ h1 h2 => ?_⟩, e0.symm, fun x => ⟨fun hc => ?_, fun hc => ⟨fun _ => ?_, fun h => absurd h (by omega)⟩⟩, fun _ => ⟨rfl, rfl, fun _ => rfl⟩⟩
    · rw [show 48 * j + 16 * 0 + r = 48 * j + r by omega]
      exact (hS r hr).2.1
    · have := (hS r hr).1
      show Z r / 5 < 5
      omega
    · have := hM r t h1 h2
      show Z r / 5 ≤ Z t / 5
      omega
    · obtain ⟨r, q1, q2⟩ := hc.1 e
      exact ⟨r, Nat.zero_le _, q1, q2⟩
    · obtain ⟨r, _, q1, q2⟩ := hc
      exact ⟨r, q1, q2⟩
  · have e0 : tj_dn k1 k2 d = 1 := tj_dn1 (by omega) (by omega)
    rw [e0] at g1
    obtain ⟨lo, hi, q1, q2, q3, q4, q5⟩ := g4 (by omega)
    refine ⟨1, lo, hi, fun r => Z r % 5, ⟨g1, by decide, q1, q2, q3, by omega, fun r h1 h2 => ⟨?_, Nat.mod_lt _ (by decide)⟩, fun r t h0 h1 h2 => ?_⟩, e0.symm, fun x => ⟨fun hc => ?_, fun hc => ⟨fun h => absurd h (by omega), fun _ => ?_⟩⟩, fun h => absurd h (by omega)⟩
    · rw [show 48 * j + 16 * 1 + r = 48 * j + 16 + r by omega]
      exact (hS r (by omega)).2.2
    · have m1 := hM r t h1 (by omega)
      have m2 := (q5 r (by omega)).mp ⟨h0, by omega⟩
      have m3 := (q5 t (by omega)).mp ⟨by omega, h2⟩
      show Z r % 5 ≤ Z t % 5
      omega
    · obtain ⟨hx5, r, p1, p2⟩ := hc.2 e
      obtain ⟨l1, l2⟩ := (q5 r p1).mpr (by omega)
      exact ⟨r, l1, l2, by show Z r % 5 = x; omega⟩
    · obtain ⟨r, l1, l2, l3⟩ := hc
      have m2 := (q5 r (by omega)).mp ⟨l1, l2⟩
      have l3' : Z r % 5 = x := l3
      refine ⟨by omega, r, by omega, ?_⟩
      omega
/-- the standing facts of a search: m the atoms; od the order; k1, k2, n, Z the tries -/
def tj_CX (m M : Nat) (od k1 k2 n : Nat → Nat) (Z : Nat → Nat → Nat) (a18 a19 a20 a21 : Nat → Int32) : Prop := M ≤ 5 ∧ (∀ k, k < M → a18 k = nI (od k) ∧ od k < 5) ∧ (∀ j k, j < M → k < M → od j = od k → j = k) ∧ (∀ i, i < 4 → m.testBit i = true → a19 i = nI 2 ∧ a20 (3 * i) = nI (od (k1 i)) ∧ a20 (3 * i + 1) = nI (od (k2 i)) ∧ k1 i < k2 i ∧ k2 i < M ∧ tj_SR a21 i (n i) (Z i) ∧ tj_SM (n i) (Z i) ∧ n i ≤ 16) ∧ (∀ k, k < M → ∃ i, i < 4 ∧ m.testBit i = true ∧ (k1 i = k ∨ k2 i = k))
def tj_PA (m : Nat) (k1 k2 n : Nat → Nat) (Z : Nat → Nat → Nat) (a22 a23 a24 : Nat → Int32) (d : Nat) (s : Nat → Nat) : Prop := ∀ j, j < 4 → m.testBit j = true → tj_PJ (k1 j) (k2 j) (n j) (Z j) a22 a23 a24 j d s
def tj_CC (m : Nat) (k1 k2 n : Nat → Nat) (Z : Nat → Nat → Nat) (d : Nat) (s : Nat → Nat) (x : Nat) : Prop := ∀ j, j < 4 → m.testBit j = true → tj_CJ (k1 j) (k2 j) (n j) (Z j) d s x
section
variable {lv qu ai st fo an bo tc oc ac : Int32} {a1 : Nat → Int64} {a2 : Nat → Int32} {a3 : Nat → Int32} {a4 : Nat → Int32} {a5 : Nat → Int32} {a6 : Nat → Int32} {a7 : Nat → Int32} {a8 : Nat → Int32} {a9 : Nat → Int32} {a10 : Nat → Int64} {a11 : Nat → Int64} {a12 : Nat → Int64} {a13 : Nat → Int32} {a14 : Nat → Int32} {a15 : Nat → Int32} {a16 : Nat → Int32} {a17 : Nat → Int32} {a18 : Nat → Int32} {a19 : Nat → Int32} {a20 : Nat → Int32} {a21 : Nat → Int32} {a22 : Nat → Int32} {a23 : Nat → Int32} {a24 : Nat → Int32} {a25 : Nat → Int32}
/-- waiting, in the picture -/
theorem tw_waitsP {post : Int32 → Prop} {x y : Int32} {i m M d : Nat} {od k1 k2 n : Nat → Nat} {Z : Nat → Nat → Nat} {s : Nat → Nat} (ex : x = nI i) (ey : y = nI (od d)) (hi4 : i < 4) (hd : d < M) (hai : ai = nI m) (hcx : tj_CX m M od k1 k2 n Z a18 a19 a20 a21) (hj : m.testBit i = true → tj_PJ (k1 i) (k2 i) (n i) (Z i) a22 a23 a24 i d s)
    (H1 : m.testBit i = true → (k1 i = d ∨ k2 i = d) → post 1) (H0 : ¬ (m.testBit i = true ∧ (k1 i = d ∨ k2 i = d)) → post 0) : wpX_waitsFor post (lv, qu, ai, st, fo, an, bo, tc, oc, ac, a1, a2, a3, a4, a5, a6, a7, a8, a9, a10, a11, a12, a13, a14, a15, a16, a17, a18, a19, a20, a21, a22, a23, a24, a25) x y := by
  obtain ⟨c1, c2, c3, c4, c5⟩ := hcx
  by_cases hb : m.testBit i = true
  · obtain ⟨t1, t2, t3, t4, t5, t6, t7, t8⟩ := c4 i hi4 hb
    have hp := (hj hb).1
    have o1 := (c2 (k1 i) (by omega)).2
    have o2 := (c2 (k2 i) t5).2
    have o3 := (c2 d hd).2
    have i1 : od (k1 i) = od d ↔ k1 i = d := ⟨c3 _ _ (by omega) hd, fun e => by rw [e]⟩
    have i2 : od (k2 i) = od d ↔ k2 i = d := ⟨c3 _ _ t5 hd, fun e => by rw [e]⟩
    have key : ((tj_dn (k1 i) (k2 i) d = 0 ∧ od (k1 i) = od d) ∨ (tj_dn (k1 i) (k2 i) d = 1 ∧ od (k2 i) = od d)) ↔ (k1 i = d ∨ k2 i = d) := by
      rw [i1, i2]
      constructor
      · rintro (h | h)
        · exact Or.inl h.2
        · exact Or.inr h.2
      · rintro (h | h)
        · exact Or.inl ⟨tj_dn0 t4 (by omega), h⟩
        · exact Or.inr ⟨tj_dn1 (by omega) (by omega), h⟩
    have hdn : tj_dn (k1 i) (k2 i) d ≤ 2 := by
      unfold tj_dn
      split <;> split <;> omega
    refine tw_waits (m := m) (d := tj_dn (k1 i) (k2 i) d) (u0 := od (k1 i)) (u1 := od (k2 i)) ex ey hi4 hai o3 o1 o2 (fun _ => ⟨hp, hdn, t1, t2, t3⟩) (fun _ h => H1 hb (key.mp h)) (fun h => H0 (fun g => h ⟨hb, key.mpr g.2⟩))
  · refine tw_waits (m := m) (d := 0) (u0 := 0) (u1 := 0) ex ey hi4 hai (c2 d hd).2 (by decide) (by decide) (fun z => absurd z hb) (fun z _ => absurd z hb) (fun _ => H0 (fun g => hb g.1))
theorem tw_commonP {post : Int32 → Prop} {x y : Int32} {m M d f : Nat} {od k1 k2 n : Nat → Nat} {Z : Nat → Nat → Nat} {s : Nat → Nat} (ex : x = nI (od d)) (ey : y = nI f) (hf : f < 6) (hd : d < M) (hai : ai = nI m) (hcx : tj_CX m M od k1 k2 n Z a18 a19 a20 a21) (hpa : tj_PA m k1 k2 n Z a22 a23 a24 d s)
    (H1 : ∀ t, f ≤ t → t < 5 → tj_CC m k1 k2 n Z d s t → (∀ y, f ≤ y → y < t → ¬ tj_CC m k1 k2 n Z d s y) → post (nI t))
    (H0 : (∀ y, f ≤ y → ¬ tj_CC m k1 k2 n Z d s y) → post (-1)) : wpX_commonValue post (lv, qu, ai, st, fo, an, bo, tc, oc, ac, a1, a2, a3, a4, a5, a6, a7, a8, a9, a10, a11, a12, a13, a14, a15, a16, a17, a18, a19, a20, a21, a22, a23, a24, a25) x y := by
  have hcx' := hcx
  obtain ⟨c1, c2, c3, c4, c5⟩ := hcx'
  have conv : ∀ t, (∀ i, i < 4 → (m.testBit i = true ∧ (k1 i = d ∨ k2 i = d)) → tj_CJ (k1 i) (k2 i) (n i) (Z i) d s t) ↔ tj_CC m k1 k2 n Z d s t := by
    intro t
    constructor
    · intro h j hj hb
      by_cases e : k1 j = d ∨ k2 j = d
      · exact h j hj ⟨hb, e⟩
      · exact ⟨fun z => absurd (Or.inl z) e, fun z => absurd (Or.inr z) e⟩
    · intro h i hi hb
      exact h i hi hb.1
  refine tw_common (v := od d) (C := fun i t => tj_CJ (k1 i) (k2 i) (n i) (Z i) d s t) (wt := fun i => m.testBit i = true ∧ (k1 i = d ∨ k2 i = d)) ex ey hf (fun i hi => ?_) ?_ (fun t h1 h2 h3 h4 => H1 t h1 h2 ((conv t).mp h3) (fun y hy1 hy2 hc => h4 y hy1 hy2 ((conv y).mpr hc))) (fun h => H0 (fun y hy hc => h y hy ((conv y).mpr hc)))
  · by_cases hw : m.testBit i = true ∧ (k1 i = d ∨ k2 i = d)
    · obtain ⟨t1, t2, t3, t4, t5, t6, t7, t8⟩ := c4 i hi hw.1
      obtain ⟨e, lo, hi', V, p1, p2, p3, p4⟩ := tj_PJ_PT t4 (hpa i hi hw.1) t6 t7 t8 hw.2
      exact Or.inr ⟨hw, fun φ hφ => tw_waitsP rfl rfl hi hd hai hcx (fun hb => hpa i hi hb) (fun _ _ => hφ) (fun g => absurd hw g), e, lo, hi', V, p1, p3⟩
    · exact Or.inl ⟨hw, fun φ hφ => tw_waitsP rfl rfl hi hd hai hcx (fun hb => hpa i hi hb) (fun h1 h2 => absurd ⟨h1, h2⟩ hw) (fun _ => hφ)⟩
  · obtain ⟨i, h1, h2, h3⟩ := c5 d hd
    exact ⟨i, h1, h2, h3⟩
theorem tw_goDown {post : Int32 → St2 → Prop} {x y : Int32} {m M d t : Nat} {od k1 k2 n : Nat → Nat} {Z : Nat → Nat → Nat} {s s' : Nat → Nat} (ex : x = nI (od d)) (ey : y = nI t) (hd : d < M) (ht : t < 5) (hai : ai = nI m) (hcx : tj_CX m M od k1 k2 n Z a18 a19 a20 a21) (hpa : tj_PA m k1 k2 n Z a22 a23 a24 d s) (hcc : tj_CC m k1 k2 n Z d s t) (hs : ∀ k, k < d → s' k = s k) (hst : s' d = t)
    (H : ∀ w b22 b23 b24, tj_PA m k1 k2 n Z b22 b23 b24 (d + 1) s' → post w (lv, qu, ai, st, fo, an, bo, tc, oc, ac, a1, a2, a3, a4, a5, a6, a7, a8, a9, a10, a11, a12, a13, a14, a15, a16, a17, a18, a19, a20, a21, b22, b23, b24, a25)) : wpX_goDown post (lv, qu, ai, st, fo, an, bo, tc, oc, ac, a1, a2, a3, a4, a5, a6, a7, a8, a9, a10, a11, a12, a13, a14, a15, a16, a17, a18, a19, a20, a21, a22, a23, a24, a25) x y := by
  subst ex ey
  have hcx' := hcx
  obtain ⟨c1, c2, c3, c4, c5⟩ := hcx'
  refine pk_loop (fun f i (u : Int32 × (Nat → Int32) × (Nat → Int32) × (Nat → Int32)) => wX_goDown_5 post (nI (od d)) (nI t) lv qu ai st fo an bo tc oc ac f u.1 (nI i) a1 a2 a3 a4 a5 a6 a7 a8 a9 a10 a11 a12 a13 a14 a15 a16 a17 a18 a19 a20 a21 u.2.1 u.2.2.1 u.2.2.2 a25) (fun i u => ∀ j, j < 4 → m.testBit j = true → (j < i → tj_PJ (k1 j) (k2 j) (n j) (Z j) u.2.1 u.2.2.1 u.2.2.2 j (d + 1) s') ∧ (i ≤ j → tj_PJ (k1 j) (k2 j) (n j) (Z j) u.2.1 u.2.2.1 u.2.2.2 j d s)) 4 0 (0, a22, a23, a24) (by omega) (fun j hj hb => ⟨fun l => absurd l (by omega), fun _ => hpa j hj hb⟩) ?_ ?_
  · intro f u hu
    exact br_t (by decide) (H _ _ _ _ (fun j hj hb => (hu j hj hb).1 hj))
  · intro f i u hi hu hw
    obtain ⟨w, b22, b23, b24⟩ := u
    dsimp only at hu
    show wX_goDown_5 post (nI (od d)) (nI t) lv qu ai st fo an bo tc oc ac (f + 1) w (nI i) a1 a2 a3 a4 a5 a6 a7 a8 a9 a10 a11 a12 a13 a14 a15 a16 a17 a18 a19 a20 a21 b22 b23 b24 a25
    have c4i : (nI i).toNatClampNeg = i := nI_clamp (by omega)
    have v4 : vp_in (nI i) 4 := vp_in_nI hi (by decide)
    refine br_f (nI_ge (b := 4) hi (by decide)) ?_
    refine tw_waitsP (i := i) (d := d) (s := s) rfl rfl hi hd hai hcx (fun hb => (hu i hi hb).2 (Nat.le_refl i)) (fun hb hw' => br_f (by decide) ?_) (fun g => br_t rfl (nm_r (nI_1 i) (hw (w, b22, b23, b24) (fun j hj hb => ⟨fun l => ?_, fun l => (hu j hj hb).2 (by omega)⟩))))
    · obtain ⟨t1, t2, t3, t4, t5, t6, t7, t8⟩ := c4 i hi hb
      have hpj := (hu i hi hb).2 (Nat.le_refl i)
      obtain ⟨e, lo, hi', V, p1, p2, p3, p4⟩ := tj_PJ_PT t4 hpj t6 t7 t8 hw'
      have p1' := p1
      obtain ⟨q24, qd, q22, q23, qlh, qh, qV, qM⟩ := p1'
      refine tw_seek rfl rfl hi (by omega) p1 (fun r r1 r2 r3 r4 => ?_)
      refine tw_seek (v := t + 1) rfl (nI_1 t) hi (by omega) p1 (fun r' r1' r2' r3' r4' => ?_)
      have e24 : ((b24 (nI i).toNatClampNeg + 1).toInt8.toInt32) = nI (e + 1) := by rw [c4i, q24, nI_1, tj_i8 _ (by omega)]
      refine ⟨v4, v4, nm_r (e' := upd b24 i (nI (e + 1))) (by rw [e24, c4i]) ⟨v4, ?_⟩⟩
      have ei : (4 : Int32) * nI i + upd b24 i (nI (e + 1)) (nI i).toNatClampNeg = nI (4 * i + (e + 1)) := by rw [c4i, pk_us]; exact tj_ix 4 i (e + 1)
      have ci : ((4 : Int32) * nI i + upd b24 i (nI (e + 1)) (nI i).toNatClampNeg).toNatClampNeg = 4 * i + (e + 1) := by rw [ei]; exact nI_clamp (by omega)
      refine ⟨pk_in (4 * i + (e + 1)) 16 (by omega) ei, nm_r (e' := upd b22 (4 * i + (e + 1)) (nI r)) (by rw [ci, tj_i8 _ (by omega)]) ⟨v4, pk_in (4 * i + (e + 1)) 16 (by omega) ei, nm_r (e' := upd b23 (4 * i + (e + 1)) (nI r')) (by rw [ci, tj_i8 _ (by omega)]) (nm_e (nm_r (nI_1 i) (hw (w ||| ((1 : Int32) <<< (nI i &&& 31)), upd b22 (4 * i + (e + 1)) (nI r), upd b23 (4 * i + (e + 1)) (nI r'), upd b24 i (nI (e + 1))) (fun j hj hb' => ?_))))⟩⟩
      dsimp only
      have old : j ≠ i → ∀ d0 s0, tj_PJ (k1 j) (k2 j) (n j) (Z j) b22 b23 b24 j d0 s0 → tj_PJ (k1 j) (k2 j) (n j) (Z j) (upd b22 (4 * i + (e + 1)) (nI r)) (upd b23 (4 * i + (e + 1)) (nI r')) (upd b24 i (nI (e + 1))) j d0 s0 := by
        intro hne d0 s0 h0
        exact tj_PJ_keep h0 (fun x h1 h2 => pk_un (by omega)) (fun x h1 h2 => pk_un (by omega)) (pk_un hne)
      refine ⟨fun l => ?_, fun l => old (by omega) _ _ ((hu j hj hb').2 (by omega))⟩
      by_cases ej : j = i
      · subst ej
        obtain ⟨g1, g2, g3, g4, g5⟩ := hpj
        rcases hw' with ek | ek
        · have e0 : e = 0 := by rw [p2]; exact tj_dn0 t4 (by omega)
          obtain ⟨z1, z2, z3⟩ := p4 ek
          subst e0 z1 z2
          refine ⟨by rw [pk_us, tj_dn1 (by omega) (by omega)], by rw [pk_un (by omega)]; exact g2, by rw [pk_un (by omega)]; exact g3, fun _ => ⟨r, r', pk_us, pk_us, ?_, r2', fun x hx => ?_⟩, fun l2 => absurd l2 (by omega)⟩
          · rcases Nat.lt_or_ge r' r with a | a
            · have h1 := r3 r' (Nat.zero_le _) a
              have h2 := r4' r' (Nat.le_refl _) (by omega)
              omega
            · exact a
          · rw [ek, hst]
            have zx := z3 x
            constructor
            · rintro ⟨h1, h2⟩
              have b1 := r4 x h1 hx
              have b2 := r3' x (Nat.zero_le _) h2
              omega
            · intro h1
              constructor
              · rcases Nat.lt_or_ge x r with a | a
                · have := r3 x (Nat.zero_le _) a; omega
                · exact a
              · rcases Nat.lt_or_ge x r' with a | a
                · exact a
                · have := r4' x a hx; omega
        · have e1 : e = 1 := by rw [p2]; exact tj_dn1 (by omega) (by omega)
          subst e1
          refine ⟨by rw [pk_us, tj_dn2 t4 (by omega)], by rw [pk_un (by omega)]; exact g2, by rw [pk_un (by omega)]; exact g3, fun _ => ?_, fun _ => ?_⟩
          · rw [pk_un (by omega), pk_un (by omega), hs (k1 j) (by omega)]
            exact g4 (by omega)
          · obtain ⟨_, x, hx1, hx2⟩ := (hcc j hj hb').2 ek
            refine ⟨x, hx1, ?_⟩
            rw [ek, hst, hs (k1 j) (by omega)]
            exact hx2
      · exact old ej _ _ ((hu j hj hb').1 (by omega))
    · by_cases ej : j = i
      · subst ej
        have hnw : ¬ (k1 j = d ∨ k2 j = d) := fun z => g ⟨hb, z⟩
        obtain ⟨t1, t2, t3, t4, t5, t6, t7, t8⟩ := c4 j hj hb
        exact tj_PJ_skip t4 ((hu j hj hb).2 (Nat.le_refl j)) (fun z => hnw (Or.inl z)) (fun z => hnw (Or.inr z)) hs
      · exact (hu j hj hb).1 (by omega)
/-- one atom goes up -/
theorem tj_PJ_up {k1 k2 n j d : Nat} {Z s : Nat → Nat} {a22 a23 a24 b24 : Nat → Int32} (h : tj_PJ k1 k2 n Z a22 a23 a24 j (d + 1) s) (e24 : b24 j = nI (tj_dn k1 k2 d)) : tj_PJ k1 k2 n Z a22 a23 b24 j d s := by
  obtain ⟨g1, g2, g3, g4, g5⟩ := h
  exact ⟨e24, g2, g3, fun l => g4 (by omega), fun l => g5 (by omega)⟩
theorem tw_goUp {post : St2 → Prop} {x : Int32} {m M d : Nat} {od k1 k2 n : Nat → Nat} {Z : Nat → Nat → Nat} {s : Nat → Nat} (ex : x = nI (od d)) (hd : d < M) (hai : ai = nI m) (hcx : tj_CX m M od k1 k2 n Z a18 a19 a20 a21) (hpa : tj_PA m k1 k2 n Z a22 a23 a24 (d + 1) s)
    (H : ∀ b24, tj_PA m k1 k2 n Z a22 a23 b24 d s → post (lv, qu, ai, st, fo, an, bo, tc, oc, ac, a1, a2, a3, a4, a5, a6, a7, a8, a9, a10, a11, a12, a13, a14, a15, a16, a17, a18, a19, a20, a21, a22, a23, b24, a25)) : wpX_goUp post (lv, qu, ai, st, fo, an, bo, tc, oc, ac, a1, a2, a3, a4, a5, a6, a7, a8, a9, a10, a11, a12, a13, a14, a15, a16, a17, a18, a19, a20, a21, a22, a23, a24, a25) x := by
  subst ex hai
  have hcx' := hcx
  obtain ⟨c1, c2, c3, c4, c5⟩ := hcx'
  have o3 := (c2 d hd).2
  refine pk_loop (fun f i u => wX_goUp_2 post (nI (od d)) lv qu (nI m) st fo an bo tc oc ac f (nI i) a1 a2 a3 a4 a5 a6 a7 a8 a9 a10 a11 a12 a13 a14 a15 a16 a17 a18 a19 a20 a21 a22 a23 u a25) (fun i u => ∀ j, j < 4 → m.testBit j = true → (j < i → tj_PJ (k1 j) (k2 j) (n j) (Z j) a22 a23 u j d s) ∧ (i ≤ j → tj_PJ (k1 j) (k2 j) (n j) (Z j) a22 a23 u j (d + 1) s)) 4 0 a24 (by omega) (fun j hj hb => ⟨fun l => absurd l (by omega), fun _ => hpa j hj hb⟩) ?_ ?_
  · intro f u hu
    exact br_t (by decide) (H _ (fun j hj hb => (hu j hj hb).1 hj))
  · intro f i u hi hu hw
    have c4i : (nI i).toNatClampNeg = i := nI_clamp (by omega)
    have v4 : vp_in (nI i) 4 := vp_in_nI hi (by decide)
    -- the next round when a24 keeps
    have keep : (m.testBit i = true → u i = nI (tj_dn (k1 i) (k2 i) d)) → wX_goUp_2 post (nI (od d)) lv qu (nI m) st fo an bo tc oc ac f (nI (i + 1)) a1 a2 a3 a4 a5 a6 a7 a8 a9 a10 a11 a12 a13 a14 a15 a16 a17 a18 a19 a20 a21 a22 a23 u a25 := by
      intro hk
      refine hw u (fun j hj hb => ⟨fun l => ?_, fun l => (hu j hj hb).2 (by omega)⟩)
      by_cases ej : j = i
      · subst ej
        exact tj_PJ_up ((hu j hj hb).2 (Nat.le_refl j)) (hk hb)
      · exact (hu j hj hb).1 (by omega)
    refine br_f (nI_ge (b := 4) hi (by decide)) (ek_if (tj_b0 (nI m) (show i < 32 by omega)) (fun z => nm_r (nI_1 i) (keep (fun hb => ?_))) (fun z => ⟨v4, ?_⟩))
    · rw [tj_nI m (by omega), hb] at z
      exact absurd z (by decide)
    · have hb := tj_nf z
      rw [tj_nI m (by omega)] at hb
      obtain ⟨t1, t2, t3, t4, t5, t6, t7, t8⟩ := c4 i hi hb
      have hpj := (hu i hi hb).2 (Nat.le_refl i)
      have g1 := hpj.1
      have o1 := (c2 (k1 i) (by omega)).2
      have o2 := (c2 (k2 i) t5).2
      have i1 : od (k1 i) = od d ↔ k1 i = d := ⟨c3 _ _ (by omega) hd, fun e => by rw [e]⟩
      have i2 : od (k2 i) = od d ↔ k2 i = d := ⟨c3 _ _ t5 hd, fun e => by rw [e]⟩
      have hcase : (tj_dn (k1 i) (k2 i) (d + 1) = 0 ∧ d + 1 ≤ k1 i) ∨ (tj_dn (k1 i) (k2 i) (d + 1) = 1 ∧ k1 i ≤ d ∧ d < k2 i) ∨ (tj_dn (k1 i) (k2 i) (d + 1) = 2 ∧ k2 i ≤ d) := by
        rcases Nat.lt_or_ge (k1 i) (d + 1) with a | a
        · rcases Nat.lt_or_ge (k2 i) (d + 1) with b | b
          · exact Or.inr (Or.inr ⟨tj_dn2 t4 b, by omega⟩)
          · exact Or.inr (Or.inl ⟨tj_dn1 a b, by omega, by omega⟩)
        · exact Or.inl ⟨tj_dn0 t4 a, a⟩
      generalize hE : tj_dn (k1 i) (k2 i) (d + 1) = E at hcase g1
      have e24 : u (nI i).toNatClampNeg = nI E := by rw [c4i]; exact g1
      refine pk_eq E 0 (fun e0 => nm_r (nI_1 i) (keep (fun _ => ?_))) (fun e0 => ⟨v4, ?_⟩) e24
      · rw [g1, tj_dn0 t4 (by omega), e0]
      · obtain ⟨E', rfl⟩ : ∃ E', E = E' + 1 := ⟨E - 1, by omega⟩
        have ei : ((3 : Int32) * nI i + u (nI i).toNatClampNeg) - 1 = nI (3 * i + E') := by
          rw [e24]
          have t : (3 : Int32) * nI i + nI (E' + 1) = nI (3 * i + E' + 1) := tj_ix 3 i (E' + 1)
          rw [t, nI_pred]
        have dec : (u (nI i).toNatClampNeg - 1).toInt8.toInt32 = nI E' := by rw [e24, nI_pred, tj_i8 _ (by omega)]
        refine ⟨pk_in (3 * i + E') 12 (by omega) ei, ?_⟩
        rw [ei, nI_clamp (show 3 * i + E' < 2 ^ 31 by omega)]
        -- down by one
        have down : tj_dn (k1 i) (k2 i) d = E' → wX_goUp_2 post (nI (od d)) lv qu (nI m) st fo an bo tc oc ac f (nI (i + 1)) a1 a2 a3 a4 a5 a6 a7 a8 a9 a10 a11 a12 a13 a14 a15 a16 a17 a18 a19 a20 a21 a22 a23 (upd u i (nI E')) a25 := by
          intro hdn
          refine hw _ (fun j hj hb' => ⟨fun l => ?_, fun l => tj_PJ_keep ((hu j hj hb').2 (by omega)) (fun _ _ _ => rfl) (fun _ _ _ => rfl) (pk_un (by omega))⟩)
          by_cases ej : j = i
          · subst ej
            exact tj_PJ_up ((hu j hj hb').2 (Nat.le_refl j)) (by rw [pk_us, hdn])
          · exact tj_PJ_keep ((hu j hj hb').1 (by omega)) (fun _ _ _ => rfl) (fun _ _ _ => rfl) (pk_un ej)
        rcases (show E' = 0 ∨ E' = 1 by omega) with e | e
        · subst e
          refine pk_eq (od (k1 i)) (od d) (fun h => ⟨v4, v4, nm_r (e' := upd u i (nI 0)) (by rw [dec, c4i]) (nm_r (nI_1 i) (down ?_))⟩) (fun h => nm_r (nI_1 i) (keep (fun _ => ?_))) t2
          · exact tj_dn0 t4 (by have := i1.mp h; omega)
          · rw [g1, tj_dn1 (by have : k1 i ≠ d := fun z => h (i1.mpr z); omega) (by omega)]
        · subst e
          refine pk_eq (od (k2 i)) (od d) (fun h => ⟨v4, v4, nm_r (e' := upd u i (nI 1)) (by rw [dec, c4i]) (nm_r (nI_1 i) (down ?_))⟩) (fun h => nm_r (nI_1 i) (keep (fun _ => ?_))) t3
          · have := i2.mp h
            exact tj_dn1 (by omega) (by omega)
          · rw [g1, tj_dn2 t4 (by have : k2 i ≠ d := fun z => h (i2.mpr z); omega)]
/-- the answer is put down -/
theorem tw_offer {post : St2 → Prop} {q w : Nat} {t : Nat → Nat} (hqu : qu = nI q) (hq : q < 2) (hw : a6 q = nI w) (ht : ∀ v, v < 5 → t v < 5 ∧ a15 v = nI (t v))
    (H : post (lv, qu, ai, st, fo, 1, bo, tc, oc, ac, a1, a2, a3, a4, a5, a6, a7, a8, a9, (vp_updL a10 (tj_code w t 5 / 64) (a10 (tj_code w t 5 / 64) ||| ((1 : Int64) <<< ((nI (tj_code w t 5 % 64)).toInt64 &&& 63)))), a11, a12, a13, a14, a15, a16, a17, a18, a19, a20, a21, a22, a23, a24, a25)) : wpX_offerAnswer post (lv, qu, ai, st, fo, an, bo, tc, oc, ac, a1, a2, a3, a4, a5, a6, a7, a8, a9, a10, a11, a12, a13, a14, a15, a16, a17, a18, a19, a20, a21, a22, a23, a24, a25) := by
  subst hqu
  have hc : ∀ n, n ≤ 5 → tj_code w t n < 3125 := by
    intro n hn
    have h1 := tj_code_lt (w := w) (t := t) n (fun v hv => (ht v (by omega)).1)
    have h2 : 5 ^ n ≤ 5 ^ 5 := Nat.pow_le_pow_right (by decide) hn
    omega
  have eq : a6 (nI q).toNatClampNeg = nI w := by rw [nI_clamp (by omega)]; exact hw
  refine pk_loop (σ := Unit) (fun n i _ => wX_offerAnswer_4 post lv (nI q) ai st fo an bo tc oc ac a1 a2 a3 a4 a5 a6 a7 a8 a9 a10 a11 a12 a13 a14 a15 a16 a17 a18 a19 a20 a21 a22 a23 a24 a25 n (nI (tj_code w t i)) (nI i)) (fun _ _ => True) 5 0 () (by omega) trivial ?_ ?_
  · intro n _ _
    exact br_t (by decide) (tw_putIn rfl (by have := hc 5 (by omega); omega) H)
  · intro n i _ hi _ hw'
    have cond : (((a6 (nI q).toNatClampNeg >>> (nI i &&& 31)) &&& 1) = 0) ↔ w.testBit i = false := by rw [eq, tj_b0 _ (by omega), tj_nI _ (by omega)]
    refine br_f (nI_ge (b := 5) hi (by decide)) ⟨vp_in_nI hq (by decide), ek_if cond (fun z => nm_r (nI_1 i) ?_) (fun z => ⟨vp_in_nI hi (by decide), ?_⟩)⟩
    · have t' := hw' () trivial
      try dsimp only at t'
      rw [tj_code_f z] at t'
      exact t'
    · have e15 : (5 : Int32) * nI (tj_code w t i) + a15 (nI i).toNatClampNeg = nI (tj_code w t (i + 1)) := by
        rw [nI_clamp (by omega), (ht i hi).2, tj_code_t (tj_nf z)]
        exact tj_ix 5 _ _
      exact nm_r e15 (nm_r (nI_1 i) (hw' () trivial))
theorem tw_take {post : St2 → Prop} {q w M : Nat} {od s : Nat → Nat} (hqu : qu = nI q) (hq : q < 2) (hw : a6 q = nI w) (hoc : oc = nI M) (hM : M ≤ 5) (h18 : ∀ k, k < M → a18 k = nI (od k) ∧ od k < 5) (hinj : ∀ j k, j < M → k < M → od j = od k → j = k) (h25 : ∀ k, k < M → a25 k = nI (s k) ∧ s k < 5) (hD : tj_DG a15)
    (H : ∀ b15 t, tj_DG b15 → (∀ v, v < 5 → t v < 5) → (∀ k, k < M → t (od k) = s k) → post (lv, qu, ai, st, fo, 1, bo, tc, oc, ac, a1, a2, a3, a4, a5, a6, a7, a8, a9, (vp_updL a10 (tj_code w t 5 / 64) (a10 (tj_code w t 5 / 64) ||| ((1 : Int64) <<< ((nI (tj_code w t 5 % 64)).toInt64 &&& 63)))), a11, a12, a13, a14, b15, a16, a17, a18, a19, a20, a21, a22, a23, a24, a25)) : wpX_takeAnswer post (lv, qu, ai, st, fo, an, bo, tc, oc, ac, a1, a2, a3, a4, a5, a6, a7, a8, a9, a10, a11, a12, a13, a14, a15, a16, a17, a18, a19, a20, a21, a22, a23, a24, a25) := by
  subst hoc
  refine pk_loop (fun n k u => wX_takeAnswer_2 post lv qu ai st fo an bo tc (nI M) ac n (nI k) a1 a2 a3 a4 a5 a6 a7 a8 a9 a10 a11 a12 a13 a14 u a16 a17 a18 a19 a20 a21 a22 a23 a24 a25) (fun k u => tj_DG u ∧ ∀ j, j < k → u (od j) = nI (s j)) M 0 a15 (by omega) ⟨hD, fun j hj => absurd hj (by omega)⟩ ?_ ?_
  · intro n u hu
    refine pk_le M M (fun _ => ?_) (fun z => absurd z (by omega))
    have ht : ∀ v, v < 5 → (u v).toNatClampNeg < 5 ∧ u v = nI (u v).toNatClampNeg := by
      intro v hv
      obtain ⟨d, h1, h2⟩ := hu.1 v hv
      rw [h2, nI_clamp (by omega)]
      exact ⟨h1, rfl⟩
    refine tw_offer (t := fun v => (u v).toNatClampNeg) hqu hq hw ht ?_
    refine H u _ hu.1 (fun v hv => (ht v hv).1) (fun k hk => ?_)
    show (u (od k)).toNatClampNeg = s k
    rw [hu.2 k hk]
    exact nI_clamp (by have := (h25 k hk).2; omega)
  · intro n k u hk hu hw'
    obtain ⟨o1, o2⟩ := h18 k hk
    obtain ⟨s1, s2⟩ := h25 k hk
    have c18 : a18 (nI k).toNatClampNeg = nI (od k) := by rw [nI_clamp (by omega)]; exact o1
    have c25 : a25 (nI k).toNatClampNeg = nI (s k) := by rw [nI_clamp (by omega)]; exact s1
    refine pk_le M k (fun z => absurd z (by omega)) (fun _ => ⟨vp_in_nI (by omega) (by decide), vp_in_nI (by omega) (by decide), pk_in (od k) 5 o2 c18, nm_r (e' := upd u (od k) (nI (s k))) (by rw [c18, c25, nI_clamp (by omega), tj_v8 (by omega)]) (nm_r (nI_1 k) (hw' _ ⟨tj_DG_upd hu.1 s2, fun j hj => ?_⟩))⟩)
    by_cases e : j = k
    · rw [e, pk_us]
    · rw [pk_un (fun z => e (hinj j k (by omega) hk z))]
      exact hu.2 j (by omega)
end
end
section
/-- an assignment of the variables satisfies all atoms (by their tries) -/
def tj_SA (m : Nat) (od k1 k2 n : Nat → Nat) (Z : Nat → Nat → Nat) (t : Nat → Nat) : Prop := (∀ v, v < 5 → t v < 5) ∧ ∀ i, i < 4 → m.testBit i = true → ∃ r, r < n i ∧ Z i r = 5 * t (od (k1 i)) + t (od (k2 i))
/-- an assignment comes ahead of the place that the search has reached -/
def tj_BL (od : Nat → Nat) (d f : Nat) (s t : Nat → Nat) : Prop := (∃ j, j < d ∧ (∀ k, k < j → t (od k) = s k) ∧ t (od j) < s j) ∨ ((∀ k, k < d → t (od k) = s k) ∧ t (od d) < f)
theorem tj_SA_CC {m d M : Nat} {od k1 k2 n : Nat → Nat} {Z : Nat → Nat → Nat} {s t : Nat → Nat} (h12 : ∀ i, i < 4 → m.testBit i = true → k1 i < k2 i ∧ k2 i < M) (hod : ∀ k, k < M → od k < 5) (hs : tj_SA m od k1 k2 n Z t) (ha : ∀ k, k < d → t (od k) = s k) : tj_CC m k1 k2 n Z d s (t (od d)) := by
  intro i hi hb
  obtain ⟨l1, l2⟩ := h12 i hi hb
  obtain ⟨r, q1, q2⟩ := hs.2 i hi hb
  have b1 := hs.1 _ (hod (k2 i) l2)
  refine ⟨fun e => ⟨r, q1, ?_⟩, fun e => ⟨by rw [← e]; exact b1, r, q1, ?_⟩⟩
  · rw [← e, q2]; omega
  · rw [q2, ← e, ha (k1 i) (by omega)]
theorem tj_BL_up {d f : Nat} {od s t : Nat → Nat} (h : (∀ k, k < d + 1 → t (od k) = s k) → ¬ f ≤ t (od (d + 1))) : tj_BL od d (s d + 1) s t ↔ tj_BL od (d + 1) f s t := by
  constructor
  · rintro (⟨j, h1, h2, h3⟩ | ⟨h1, h2⟩)
    · exact Or.inl ⟨j, by omega, h2, h3⟩
    · by_cases e : t (od d) = s d
      · have ha : ∀ k, k < d + 1 → t (od k) = s k := by
          intro k hk
          by_cases e2 : k = d
          · rw [e2]; exact e
          · exact h1 k (by omega)
        exact Or.inr ⟨ha, by have := h ha; omega⟩
      · exact Or.inl ⟨d, by omega, h1, by omega⟩
  · rintro (⟨j, h1, h2, h3⟩ | ⟨h1, h2⟩)
    · by_cases e : j = d
      · subst e
        exact Or.inr ⟨h2, by omega⟩
      · exact Or.inl ⟨j, by omega, h2, h3⟩
    · exact Or.inr ⟨fun k hk => h1 k (by omega), by have := h1 d (by omega); omega⟩
theorem tj_BL_down {d f x : Nat} {od s s' t : Nat → Nat} (hfx : f ≤ x) (hs : ∀ k, k < d → s' k = s k) (hd : s' d = x) (h : (∀ k, k < d → t (od k) = s k) → f ≤ t (od d) → ¬ t (od d) < x) : tj_BL od (d + 1) 0 s' t ↔ tj_BL od d f s t := by
  constructor
  · rintro (⟨j, h1, h2, h3⟩ | ⟨h1, h2⟩)
    · by_cases e : j = d
      · subst e
        have ha : ∀ k, k < j → t (od k) = s k := fun k hk => by rw [h2 k hk, hs k hk]
        refine Or.inr ⟨ha, ?_⟩
        rw [hd] at h3
        have := h ha
        omega
      · refine Or.inl ⟨j, by omega, fun k hk => by rw [h2 k hk, hs k (by omega)], ?_⟩
        rw [← hs j (by omega)]; exact h3
    · exact absurd h2 (Nat.not_lt_zero _)
  · rintro (⟨j, h1, h2, h3⟩ | ⟨h1, h2⟩)
    · refine Or.inl ⟨j, by omega, fun k hk => by rw [h2 k hk, hs k (by omega)], ?_⟩
      rw [hs j (by omega)]; exact h3
    · refine Or.inl ⟨d, by omega, fun k hk => by rw [h1 k hk, hs k hk], ?_⟩
      rw [hd]; omega
/-- the jump behind an answer, to the last asked place a -/
theorem tj_BL_jump {d f x a : Nat} {od s s' t : Nat → Nat} (had : a ≤ d) (hfx : f ≤ x) (hs : ∀ k, k < d → s' k = s k) (hd : s' d = x) (h : (∀ k, k < d → t (od k) = s k) → f ≤ t (od d) → ¬ t (od d) < x) : tj_BL od a (s' a + 1) s' t ↔ (tj_BL od d f s t ∨ ∀ k, k < a + 1 → t (od k) = s' k) := by
  rw [← tj_BL_down hfx hs hd h]
  constructor
  · rintro (⟨j, h1, h2, h3⟩ | ⟨h1, h2⟩)
    · exact Or.inl (Or.inl ⟨j, by omega, h2, h3⟩)
    · by_cases e : t (od a) = s' a
      · right
        intro k hk
        by_cases e2 : k = a
        · rw [e2]; exact e
        · exact h1 k (by omega)
      · exact Or.inl (Or.inl ⟨a, by omega, h1, by omega⟩)
  · rintro ((⟨j, h1, h2, h3⟩ | ⟨h1, h2⟩) | h1)
    · rcases Nat.lt_trichotomy j a with l | l | l
      · exact Or.inl ⟨j, l, h2, h3⟩
      · subst l
        exact Or.inr ⟨h2, by omega⟩
      · exact Or.inr ⟨fun k hk => h2 k (by omega), by have := h2 a l; omega⟩
    · exact absurd h2 (Nat.not_lt_zero _)
    · exact Or.inr ⟨fun k hk => h1 k (by omega), by have := h1 a (by omega); omega⟩
/-! ===== the measure ===== -/
def tj_W (k : Nat) : Nat := 16 ^ (6 - k)
theorem tj_W_s {k : Nat} (h : k < 6) : tj_W k = 16 * tj_W (k + 1) := by
  unfold tj_W
  rw [show 6 - k = (6 - (k + 1)) + 1 by omega, Nat.pow_succ, Nat.mul_comm]
theorem tj_W_pos (k : Nat) : 0 < tj_W k := Nat.pow_pos (by decide)
def tj_Qs (s : Nat → Nat) : Nat → Nat
  | 0 => 0
  | k + 1 => tj_Qs s k + (2 * (s k * tj_W k) + tj_W k)
theorem tj_Qs_congr {s s' : Nat → Nat} {d : Nat} (h : ∀ k, k < d → s' k = s k) : tj_Qs s' d = tj_Qs s d := by
  induction d with
  | zero => rfl
  | succ d ih =>
    show tj_Qs s' d + (2 * (s' d * tj_W d) + tj_W d) = tj_Qs s d + (2 * (s d * tj_W d) + tj_W d)
    rw [ih (fun k hk => h k (by omega)), h d (by omega)]
theorem tj_Qs_bd {s : Nat → Nat} (a j : Nat) (h : ∀ k, k < a + j → s k < 5) (hj : a + j ≤ 5) : tj_Qs s (a + j) + 16 * tj_W (a + j) ≤ tj_Qs s a + 16 * tj_W a := by
  induction j with
  | zero => exact Nat.le_refl _
  | succ j ih =>
    have h1 := ih (fun k hk => h k (by omega)) (by omega)
    have h2 := tj_W_s (k := a + j) (by omega)
    have h3 : s (a + j) * tj_W (a + j) ≤ 4 * tj_W (a + j) := Nat.mul_le_mul_right _ (by have := h (a + j) (by omega); omega)
    show tj_Qs s (a + j) + (2 * (s (a + j) * tj_W (a + j)) + tj_W (a + j)) + 16 * tj_W (a + j + 1) ≤ _
    omega
def tj_mu (d f : Nat) (s : Nat → Nat) : Nat := 16 * tj_W 0 - (tj_Qs s d + 2 * (f * tj_W d))
theorem tj_mu_lt {d f : Nat} {s : Nat → Nat} (hd : d ≤ 5) (hs : ∀ k, k < d → s k < 5) (hf : f < 6) : tj_Qs s d + 2 * (f * tj_W d) < 16 * tj_W 0 := by
  have h1 := tj_Qs_bd (s := s) 0 d (fun k hk => hs k (by omega)) (by omega)
  rw [Nat.zero_add] at h1
  have h2 : f * tj_W d ≤ 5 * tj_W d := Nat.mul_le_mul_right _ (by omega)
  have h3 := tj_W_pos d
  have h4 : tj_Qs s 0 = 0 := rfl
  omega
theorem tj_mu_down {d f x : Nat} {s s' : Nat → Nat} (hd : d < 5) (hs : ∀ k, k < d → s k < 5) (hf : f ≤ x) (hx : x < 5) (hc : ∀ k, k < d → s' k = s k) (he : s' d = x) : tj_mu (d + 1) 0 s' < tj_mu d f s := by
  have h1 := tj_mu_lt (d := d) (f := f) (s := s) (by omega) hs (by omega)
  have h3 : f * tj_W d ≤ x * tj_W d := Nat.mul_le_mul_right _ hf
  have h4 := tj_W_pos d
  unfold tj_mu
  have h2 : tj_Qs s' (d + 1) = tj_Qs s d + (2 * (x * tj_W d) + tj_W d) := by
    show tj_Qs s' d + (2 * (s' d * tj_W d) + tj_W d) = _
    rw [tj_Qs_congr hc, he]
  rw [h2, Nat.zero_mul]
  omega
theorem tj_mu_up {d f : Nat} {s : Nat → Nat} (hd : d + 1 ≤ 5) (hs : ∀ k, k < d + 1 → s k < 5) (hf : f < 6) : tj_mu d (s d + 1) s < tj_mu (d + 1) f s := by
  have h1 := tj_mu_lt (d := d + 1) (f := f) (s := s) hd hs hf
  have h3 : f * tj_W (d + 1) ≤ 5 * tj_W (d + 1) := Nat.mul_le_mul_right _ (by omega)
  have h4 := tj_W_pos (d + 1)
  have h5 := tj_W_s (k := d) (by omega)
  have h2 : tj_Qs s (d + 1) = tj_Qs s d + (2 * (s d * tj_W d) + tj_W d) := rfl
  unfold tj_mu
  rw [h2] at h1 ⊢
  rw [Nat.add_mul, Nat.one_mul]
  omega
theorem tj_mu_jump {d f x a : Nat} {s s' : Nat → Nat} (hd : d < 5) (hs : ∀ k, k < d → s k < 5) (hf : f ≤ x) (hx : x < 5) (hc : ∀ k, k < d → s' k = s k) (he : s' d = x) (had : a ≤ d) : tj_mu a (s' a + 1) s' < tj_mu d f s := by
  have h1 := tj_mu_lt (d := d) (f := f) (s := s) (by omega) hs (by omega)
  have h3 : f * tj_W d ≤ x * tj_W d := Nat.mul_le_mul_right _ hf
  have h4 := tj_W_pos d
  have h2 : tj_Qs s' (d + 1) = tj_Qs s d + (2 * (x * tj_W d) + tj_W d) := by
    show tj_Qs s' d + (2 * (s' d * tj_W d) + tj_W d) = _
    rw [tj_Qs_congr hc, he]
  have hs' : ∀ k, k < d + 1 → s' k < 5 := by
    intro k hk
    by_cases e : k = d
    · rw [e, he]; exact hx
    · rw [hc k (by omega)]; exact hs k (by omega)
  have h5 := tj_Qs_bd (s := s') (a + 1) (d - a) (fun k hk => hs' k (by omega)) (by omega)
  rw [show a + 1 + (d - a) = d + 1 by omega] at h5
  have h6 : tj_Qs s' (a + 1) = tj_Qs s' a + (2 * (s' a * tj_W a) + tj_W a) := rfl
  have h7 := tj_W_s (k := a) (by omega)
  have h8 := tj_W_pos (d + 1)
  unfold tj_mu
  rw [Nat.add_mul, Nat.one_mul]
  omega
section
variable {lv qu ai st fo an bo tc oc ac : Int32} {a1 : Nat → Int64} {a2 : Nat → Int32} {a3 : Nat → Int32} {a4 : Nat → Int32} {a5 : Nat → Int32} {a6 : Nat → Int32} {a7 : Nat → Int32} {a8 : Nat → Int32} {a9 : Nat → Int32} {a10 : Nat → Int64} {a11 : Nat → Int64} {a12 : Nat → Int64} {a13 : Nat → Int32} {a14 : Nat → Int32} {a15 : Nat → Int32} {a16 : Nat → Int32} {a17 : Nat → Int32} {a18 : Nat → Int32} {a19 : Nat → Int32} {a20 : Nat → Int32} {a21 : Nat → Int32} {a22 : Nat → Int32} {a23 : Nat → Int32} {a24 : Nat → Int32} {a25 : Nat → Int32}
/-- up to the last asked place -/
theorem tw_lf143 {post : St2 → Prop} {J : Int32 → Int32 → Int32 → Int32 → Int32 → Int32 → Int32 → Int32 → Int32 → Int32 → Int32 → Int32 → (Nat → Int64) → (Nat → Int32) → (Nat → Int32) → (Nat → Int32) → (Nat → Int32) → (Nat → Int32) → (Nat → Int32) → (Nat → Int32) → (Nat → Int32) → (Nat → Int64) → (Nat → Int64) → (Nat → Int64) → (Nat → Int32) → (Nat → Int32) → (Nat → Int32) → (Nat → Int32) → (Nat → Int32) → (Nat → Int32) → (Nat → Int32) → (Nat → Int32) → (Nat → Int32) → (Nat → Int32) → (Nat → Int32) → (Nat → Int32) → (Nat → Int32) → Prop} {m M a e : Nat} {od k1 k2 n : Nat → Nat} {Z : Nat → Nat → Nat} {s : Nat → Nat} (hai : ai = nI m) (hac : ac = nI (a + 1)) (hcx : tj_CX m M od k1 k2 n Z a18 a19 a20 a21) (hM : a + e ≤ M) (ha : a < M) (h25 : a25 a = nI (s a)) (hpa : tj_PA m k1 k2 n Z a22 a23 a24 (a + e) s)
    (H : ∀ b24, tj_PA m k1 k2 n Z a22 a23 b24 a s → J (nI a) (nI (s a + 1)) lv qu ai st fo an bo tc oc ac a1 a2 a3 a4 a5 a6 a7 a8 a9 a10 a11 a12 a13 a14 a15 a16 a17 a18 a19 a20 a21 a22 a23 b24 a25) : ∃ f, wX_leapfrog_143 post J f (nI (a + e)) lv qu ai st fo an bo tc oc ac a1 a2 a3 a4 a5 a6 a7 a8 a9 a10 a11 a12 a13 a14 a15 a16 a17 a18 a19 a20 a21 a22 a23 a24 a25 := by
  have c1 := hcx.1
  have ea : ac - 1 = nI a := by rw [hac]; exact nI_pred a
  refine ⟨e + 1, pk_loopD (fun f p b => wX_leapfrog_143 post J f (nI (a + p)) lv qu ai st fo an bo tc oc ac a1 a2 a3 a4 a5 a6 a7 a8 a9 a10 a11 a12 a13 a14 a15 a16 a17 a18 a19 a20 a21 a22 a23 b a25) (fun p b => a + p ≤ M ∧ tj_PA m k1 k2 n Z a22 a23 b (a + p) s) ?_ ?_ e a24 ⟨hM, hpa⟩⟩
  · intro f b hb
    refine pk_le a a (fun _ => ⟨pk_in a 6 (by omega), nm_r (e' := nI (s a + 1)) (by rw [Nat.add_zero, nI_clamp (show a < 2 ^ 31 by omega), h25, nI_1]) (H b hb.2)⟩) (fun z => absurd z (by omega)) rfl ea
  · intro f p b hb hw
    refine pk_le (a + (p + 1)) a (fun z => absurd z (by omega)) (fun _ => nm_r (e' := nI (a + p)) (pk_m1 (a + p)) ⟨pk_in (a + p) 5 (by omega), ?_⟩) rfl ea
    refine tw_goUp (d := a + p) (by rw [nI_clamp (by omega)]; exact (hcx.2.1 (a + p) (by omega)).1) (by omega) hai hcx hb.2 (fun b24 h => hw b24 ⟨by omega, h⟩)
/-- the search itself -/
theorem tw_lf37 {post : St2 → Prop} {q w m M A : Nat} {od k1 k2 n : Nat → Nat} {Z : Nat → Nat → Nat} {s0 : Nat → Nat} (hqu : qu = nI q) (hq : q < 2) (hw : a6 q = nI w) (hai : ai = nI m) (hoc : oc = nI M) (hac : ac = nI A) (hM0 : 0 < M) (hAM : A ≤ M) (hcx : tj_CX m M od k1 k2 n Z a18 a19 a20 a21) (hA : ∀ k, k < M → (w.testBit (od k) = true ↔ k < A)) (hD : tj_DG a15) (hpa : tj_PA m k1 k2 n Z a22 a23 a24 0 s0) (han : an = 0) (h10 : ∀ c, c < 3136 → tj_in a10 c = false)
    (H : ∀ an' b10 b15 b22 b23 b24 b25, tj_DG b15 → ((an' = 0 ∧ ¬ ∃ t, tj_SA m od k1 k2 n Z t) ∨ (an' = 1 ∧ ∃ t, tj_SA m od k1 k2 n Z t)) → (fo = 0 → (∀ v, v < 5 → w.testBit v = true → ∃ k, k < M ∧ od k = v) → ∀ c, c < 3136 → (tj_in b10 c = true ↔ ∃ t, tj_SA m od k1 k2 n Z t ∧ tj_code w t 5 = c)) → post (lv, qu, ai, st, fo, an', bo, tc, oc, ac, a1, a2, a3, a4, a5, a6, a7, a8, a9, b10, a11, a12, a13, a14, b15, a16, a17, a18, a19, a20, a21, b22, b23, b24, b25)) :
    ∃ f, wX_leapfrog_37 post f 0 0 lv qu ai st fo an bo tc oc ac a1 a2 a3 a4 a5 a6 a7 a8 a9 a10 a11 a12 a13 a14 a15 a16 a17 a18 a19 a20 a21 a22 a23 a24 a25 := by
  have hcx' := hcx
  obtain ⟨c1, c2, c3, c4, c5⟩ := hcx'
  have h12 : ∀ i, i < 4 → m.testBit i = true → k1 i < k2 i ∧ k2 i < M := fun i hi hb => ⟨(c4 i hi hb).2.2.2.1, (c4 i hi hb).2.2.2.2.1⟩
  have hod : ∀ k, k < M → od k < 5 := fun k hk => (c2 k hk).2
  refine loop_m (fun f (u : Nat × Nat × (Nat → Nat) × Int32 × (Nat → Int64) × (Nat → Int32) × (Nat → Int32) × (Nat → Int32) × (Nat → Int32) × (Nat → Int32)) => wX_leapfrog_37 post f (nI u.1) (nI u.2.1) lv qu ai st fo u.2.2.2.1 bo tc oc ac a1 a2 a3 a4 a5 a6 a7 a8 a9 u.2.2.2.2.1 a11 a12 a13 a14 u.2.2.2.2.2.1 a16 a17 a18 a19 a20 a21 u.2.2.2.2.2.2.1 u.2.2.2.2.2.2.2.1 u.2.2.2.2.2.2.2.2.1 u.2.2.2.2.2.2.2.2.2) (fun u => u.1 < M ∧ u.2.1 < 6 ∧ tj_PA m k1 k2 n Z u.2.2.2.2.2.2.1 u.2.2.2.2.2.2.2.1 u.2.2.2.2.2.2.2.2.1 u.1 u.2.2.1 ∧ (∀ k, k < u.1 → u.2.2.2.2.2.2.2.2.2 k = nI (u.2.2.1 k) ∧ u.2.2.1 k < 5) ∧ tj_DG u.2.2.2.2.2.1 ∧ ((u.2.2.2.1 = 0 ∧ ¬ ∃ t, tj_SA m od k1 k2 n Z t ∧ tj_BL od u.1 u.2.1 u.2.2.1 t) ∨ (u.2.2.2.1 = 1 ∧ fo = 0 ∧ ∃ t, tj_SA m od k1 k2 n Z t)) ∧ ((∀ v, v < 5 → w.testBit v = true → ∃ k, k < M ∧ od k = v) → ∀ c, c < 3136 → (tj_in u.2.2.2.2.1 c = true ↔ ∃ t, tj_SA m od k1 k2 n Z t ∧ tj_BL od u.1 u.2.1 u.2.2.1 t ∧ tj_code w t 5 = c))) (fun u => tj_mu u.1 u.2.1 u.2.2.1) ?_ (0, 0, s0, an, a10, a15, a22, a23, a24, a25) ?_
  rotate_left
  · have nb : ∀ t, ¬ tj_BL od 0 0 s0 t := by
      rintro t (⟨j, h1, _⟩ | ⟨_, h2⟩)
      · exact absurd h1 (Nat.not_lt_zero _)
      · exact absurd h2 (Nat.not_lt_zero _)
    refine ⟨hM0, (show (0 : Nat) < 6 by decide), hpa, fun k hk => absurd hk (Nat.not_lt_zero _), hD, Or.inl ⟨han, ?_⟩, fun _ c hc => ?_⟩
    · rintro ⟨t, _, h2⟩; exact nb t h2
    · dsimp only
      rw [h10 c hc]
      constructor
      · intro z; exact absurd z (by decide)
      · rintro ⟨t, _, h2, _⟩; exact absurd h2 (nb t)
  intro fu u hu hw'
  obtain ⟨d, f, s, bn, b10, b15, b22, b23, b24, b25⟩ := u
  dsimp only at hu
  obtain ⟨hd, hf, hpa, h25, hD, hfound, hans⟩ := hu
  show wX_leapfrog_37 post (fu + 1) (nI d) (nI f) lv qu ai st fo bn bo tc oc ac a1 a2 a3 a4 a5 a6 a7 a8 a9 b10 a11 a12 a13 a14 b15 a16 a17 a18 a19 a20 a21 b22 b23 b24 b25
  refine br_f (nI_pos (by omega)) ⟨vp_in_nI (by omega) (by decide), nm_r (e' := nI (od d)) (by rw [nI_clamp (by omega)]; exact (c2 d hd).1) ?_⟩
  refine tw_commonP (s := s) rfl rfl hf hd hai hcx hpa (fun x x1 x2 x3 x4 => ?_) (fun h0 => ?_)
  · refine br_t (nI_pos' (by omega)) ?_
    obtain ⟨s', hs1, hs2⟩ : ∃ s' : Nat → Nat, (∀ k, k < d → s' k = s k) ∧ s' d = x := ⟨fun k => if k = d then x else s k, fun k hk => if_neg (by omega), if_pos rfl⟩
    have hnot : ∀ t, tj_SA m od k1 k2 n Z t → (∀ k, k < d → t (od k) = s k) → f ≤ t (od d) → ¬ t (od d) < x := fun t ht ha h1 h2 => x4 _ h1 h2 (tj_SA_CC h12 hod ht ha)
    refine tw_goDown (t := x) (s := s) (s' := s') rfl rfl hd x2 hai hcx hpa x3 hs1 hs2 (fun w' c22 c23 c24 hpa' => ?_)
    refine ⟨vp_in_nI (by omega) (by decide), nm_r (e' := upd b25 d (nI x)) (by rw [nI_clamp (by omega), tj_i8 x (by omega)]) (nm_r (nI_1 d) ?_)⟩
    have h25' : ∀ k, k < d + 1 → upd b25 d (nI x) k = nI (s' k) ∧ s' k < 5 := by
      intro k hk
      by_cases e : k = d
      · rw [e, pk_us, hs2]; exact ⟨rfl, x2⟩
      · rw [pk_un e, hs1 k (by omega)]; exact h25 k (by omega)
    refine pk_le M (d + 1) (fun l => ?_) (fun l => ?_) hoc rfl
    · have eM : M = d + 1 := by omega
      refine tw_take (M := M) (s := s') hqu hq hw hoc c1 c2 c3 (fun k hk => h25' k (by omega)) hD (fun c15 tt hD' htt hts => ?_)
      have hsat : tj_SA m od k1 k2 n Z tt := by
        refine ⟨htt, fun i hi hb => ?_⟩
        obtain ⟨l1, l2⟩ := h12 i hi hb
        obtain ⟨r, q1, q2⟩ := (hpa' i hi hb).2.2.2.2 (by omega)
        exact ⟨r, q1, by rw [q2, hts (k1 i) (by omega), hts (k2 i) l2]⟩
      have same : ∀ t, (∀ v, v < 5 → w.testBit v = true → ∃ k, k < M ∧ od k = v) → (∀ k, k < A → t (od k) = s' k) → tj_code w t 5 = tj_code w tt 5 := by
        intro t hwh ha
        refine tj_code_congr 5 (fun v hv hb => ?_)
        obtain ⟨k, g1, g2⟩ := hwh v hv hb
        rw [← g2, hts k g1, ha k ((hA k g1).mp (by rw [g2]; exact hb))]
      refine br_c (fun hfo => pk_eq A 0 (fun hA0 => ?_) (fun hA0 => ?_) hac) (fun hfo => ?_)
      · refine H 1 _ c15 c22 c23 c24 _ hD' (Or.inr ⟨rfl, tt, hsat⟩) (fun _ hwh c hc => ?_)
        rw [tj_in_put, Bool.or_eq_true, decide_eq_true_iff, hans hwh c hc]
        constructor
        · rintro (⟨t, g1, g2, g3⟩ | g)
          · exact ⟨t, g1, g3⟩
          · exact ⟨tt, hsat, g.symm⟩
        · rintro ⟨t, g1, g2⟩
          right
          rw [← g2]
          exact same t hwh (fun k hk => absurd hk (by omega))
      · obtain ⟨a, rfl⟩ : ∃ a, A = a + 1 := ⟨A - 1, by omega⟩
        have ee : d + 1 = a + (d + 1 - a) := by omega
        rw [ee]
        refine tw_lf143 (M := M) (a := a) (e := d + 1 - a) (s := s') hai hac hcx (by omega) (by omega) (h25' a (by omega)).1 (by rw [← ee]; exact hpa') (fun e24 hpa'' => ?_)
        refine hw' (a, s' a + 1, s', 1, vp_updL b10 (tj_code w tt 5 / 64) (b10 (tj_code w tt 5 / 64) ||| ((1 : Int64) <<< ((nI (tj_code w tt 5 % 64)).toInt64 &&& 63))), c15, c22, c23, e24, upd b25 d (nI x)) ⟨by dsimp only; omega, by have := (h25' a (by omega)).2; dsimp only; omega, hpa'', fun k hk => h25' k (by dsimp only at hk; omega), hD', Or.inr ⟨rfl, hfo, tt, hsat⟩, fun hwh c hc => ?_⟩ ?_
        · dsimp only
          rw [tj_in_put, Bool.or_eq_true, decide_eq_true_iff, hans hwh c hc]
          constructor
          · rintro (⟨t, g1, g2, g3⟩ | g)
            · exact ⟨t, g1, (tj_BL_jump (by omega) x1 hs1 hs2 (hnot t g1)).mpr (Or.inl g2), g3⟩
            · exact ⟨tt, hsat, (tj_BL_jump (by omega) x1 hs1 hs2 (hnot tt hsat)).mpr (Or.inr (fun k hk => hts k (by omega))), g.symm⟩
          · rintro ⟨t, g1, g2, g3⟩
            rcases (tj_BL_jump (by omega) x1 hs1 hs2 (hnot t g1)).mp g2 with g4 | g4
            · exact Or.inl ⟨t, g1, g4, g3⟩
            · right
              rw [← g3]
              exact same t hwh g4
        · dsimp only
          exact tj_mu_jump (by omega) (fun k hk => (h25 k hk).2) x1 x2 hs1 hs2 (by omega)
      · exact H 1 _ c15 c22 c23 c24 _ hD' (Or.inr ⟨rfl, tt, hsat⟩) (fun z => absurd z hfo)
    · refine hw' (d + 1, 0, s', bn, b10, b15, c22, c23, c24, upd b25 d (nI x)) ⟨l, (show (0 : Nat) < 6 by decide), hpa', h25', hD, ?_, fun hwh c hc => ?_⟩ ?_
      · dsimp only
        rcases hfound with ⟨g1, g2⟩ | g
        · refine Or.inl ⟨g1, ?_⟩
          rintro ⟨t, g3, g4⟩
          exact g2 ⟨t, g3, (tj_BL_down x1 hs1 hs2 (hnot t g3)).mp g4⟩
        · exact Or.inr g
      · dsimp only
        rw [hans hwh c hc]
        constructor
        · rintro ⟨t, g1, g2, g3⟩
          exact ⟨t, g1, (tj_BL_down x1 hs1 hs2 (hnot t g1)).mpr g2, g3⟩
        · rintro ⟨t, g1, g2, g3⟩
          exact ⟨t, g1, (tj_BL_down x1 hs1 hs2 (hnot t g1)).mp g2, g3⟩
      · dsimp only
        exact tj_mu_down (by omega) (fun k hk => (h25 k hk).2) x1 x2 hs1 hs2
  · refine br_f (by decide) ?_
    have hnone : ∀ t, tj_SA m od k1 k2 n Z t → (∀ k, k < d → t (od k) = s k) → ¬ f ≤ t (od d) := fun t ht ha h1 => h0 _ h1 (tj_SA_CC h12 hod ht ha)
    cases d with
    | zero =>
      refine nm_r (e' := -1) (by decide) (br_f (by decide) ?_)
      have all : ∀ t, tj_SA m od k1 k2 n Z t → tj_BL od 0 f s t := fun t ht => Or.inr ⟨fun k hk => absurd hk (Nat.not_lt_zero _), by have := hnone t ht (fun k hk => absurd hk (Nat.not_lt_zero _)); omega⟩
      refine H bn b10 b15 b22 b23 b24 b25 hD ?_ (fun _ hwh c hc => ?_)
      · rcases hfound with ⟨g1, g2⟩ | ⟨g1, _, g3⟩
        · refine Or.inl ⟨g1, ?_⟩
          rintro ⟨t, ht⟩
          exact g2 ⟨t, ht, all t ht⟩
        · exact Or.inr ⟨g1, g3⟩
      · rw [hans hwh c hc]
        constructor
        · rintro ⟨t, g1, _, g3⟩; exact ⟨t, g1, g3⟩
        · rintro ⟨t, g1, g3⟩; exact ⟨t, g1, all t g1, g3⟩
    | succ d =>
      have c18 : a18 (nI d).toNatClampNeg = nI (od d) := by rw [nI_clamp (by omega)]; exact (c2 d (by omega)).1
      have c25 : b25 (nI d).toNatClampNeg + 1 = nI (s d + 1) := by rw [nI_clamp (by omega), (h25 d (by omega)).1, nI_1]
      refine nm_r (e' := nI d) (pk_m1 d) (br_t (nI_pos' (by omega)) ⟨vp_in_nI (by omega) (by decide), ?_⟩)
      refine tw_goUp (d := d) c18 (by omega) hai hcx hpa (fun c24 hpa' => ⟨vp_in_nI (by omega) (by decide), nm_r c25 ?_⟩)
      refine hw' (d, s d + 1, s, bn, b10, b15, b22, b23, c24, b25) ⟨by dsimp only; omega, by have := (h25 d (by omega)).2; dsimp only; omega, hpa', fun k hk => h25 k (by dsimp only at hk; omega), hD, ?_, fun hwh c hc => ?_⟩ ?_
      · dsimp only
        rcases hfound with ⟨g1, g2⟩ | g
        · refine Or.inl ⟨g1, ?_⟩
          rintro ⟨t, g3, g4⟩
          exact g2 ⟨t, g3, (tj_BL_up (hnone t g3)).mp g4⟩
        · exact Or.inr g
      · dsimp only
        rw [hans hwh c hc]
        constructor
        · rintro ⟨t, g1, g2, g3⟩
          exact ⟨t, g1, (tj_BL_up (hnone t g1)).mpr g2, g3⟩
        · rintro ⟨t, g1, g2, g3⟩
          exact ⟨t, g1, (tj_BL_up (hnone t g1)).mp g2, g3⟩
      · dsimp only
        exact tj_mu_up (by omega) (fun k hk => (h25 k hk).2) hf
end
end
section
theorem tj_vs_bit (m : Nat) (vm : Nat → Nat) (v : Nat) : ∀ n, (tj_vs m vm n).testBit v = true ↔ ∃ i, i < n ∧ m.testBit i = true ∧ (vm i).testBit v = true := by
  intro n
  induction n with
  | zero =>
    constructor
    · intro h
      have : (0 : Nat).testBit v = true := h
      rw [Nat.zero_testBit] at this
      exact absurd this (by decide)
    · rintro ⟨i, hi, _⟩; exact absurd hi (Nat.not_lt_zero _)
  | succ n ih =>
    cases hb : m.testBit n
    · have e : tj_vs m vm (n + 1) = tj_vs m vm n := if_neg (by rw [hb]; decide)
      rw [e, ih]
      constructor
      · rintro ⟨i, h1, h2⟩; exact ⟨i, by omega, h2⟩
      · rintro ⟨i, h1, h2, h3⟩
        have : i ≠ n := fun z => by rw [z, hb] at h2; exact absurd h2 (by decide)
        exact ⟨i, by omega, h2, h3⟩
    · have e : tj_vs m vm (n + 1) = tj_vs m vm n ||| vm n := if_pos hb
      rw [e, Nat.testBit_or, Bool.or_eq_true, ih]
      constructor
      · rintro (⟨i, h1, h2⟩ | h)
        · exact ⟨i, by omega, h2⟩
        · exact ⟨n, by omega, hb, h⟩
      · rintro ⟨i, h1, h2, h3⟩
        by_cases z : i = n
        · rw [z] at h3; exact Or.inr h3
        · exact Or.inl ⟨i, by omega, h2, h3⟩
/-- an assignment satisfies all atoms, by their lists -/
def tj_ST (m : Nat) (P Q c : Nat → Nat) (L : Nat → Nat → Nat) (a9 : Nat → Int32) (t : Nat → Nat) : Prop := (∀ v, v < 5 → t v < 5) ∧ ∀ i, i < 4 → m.testBit i = true → ∃ r, r < c i ∧ tj_b (a9 i) r = true ∧ L i r = 5 * t (P i) + t (Q i)
theorem tj_SA_ST {m th w : Nat} {P Q c n : Nat → Nat} {L Z : Nat → Nat → Nat} {a9 : Nat → Int32} {k1 k2 od ps : Nat → Nat} {M A : Nat} (hop : tj_OP th w M A od ps)
    (hpq : ∀ i, i < 4 → m.testBit i = true → P i < 5 ∧ Q i < 5 ∧ P i ≠ Q i ∧ th.testBit (P i) = true ∧ th.testBit (Q i) = true)
    (hk : ∀ i, i < 4 → m.testBit i = true → (k1 i = ps (P i) ∧ k2 i = ps (Q i)) ∨ (k1 i = ps (Q i) ∧ k2 i = ps (P i)))
    (hL : ∀ i, i < 4 → m.testBit i = true → ∀ r, r < c i → L i r < 25)
    (hZ : ∀ i, i < 4 → m.testBit i = true → ∀ z, (∃ r, r < n i ∧ Z i r = z) ↔ ∃ r, r < c i ∧ tj_b (a9 i) r = true ∧ tj_zz (od (k1 i)) (P i) (L i r) = z) (t : Nat → Nat) :
    tj_SA m od k1 k2 n Z t ↔ tj_ST m P Q c L a9 t := by
  obtain ⟨o1, o2, o3, o4⟩ := hop
  refine and_congr_right (fun ht => ?_)
  have key : ∀ i, i < 4 → m.testBit i = true → ((∃ r, r < n i ∧ Z i r = 5 * t (od (k1 i)) + t (od (k2 i))) ↔ ∃ r, r < c i ∧ tj_b (a9 i) r = true ∧ L i r = 5 * t (P i) + t (Q i)) := by
    intro i hi hb
    obtain ⟨p1, p2, p3, p4, p5⟩ := hpq i hi hb
    have e1 := (o2 (P i) p1 p4).2
    have e2 := (o2 (Q i) p2 p5).2
    rw [hZ i hi hb]
    have tp := ht (P i) p1
    have tq := ht (Q i) p2
    have per : ∀ r, r < c i → (tj_zz (od (k1 i)) (P i) (L i r) = 5 * t (od (k1 i)) + t (od (k2 i)) ↔ L i r = 5 * t (P i) + t (Q i)) := by
      intro r hr
      have hl := hL i hi hb r hr
      unfold tj_zz
      rcases hk i hi hb with ⟨g1, g2⟩ | ⟨g1, g2⟩
      · rw [g1, g2, e1, e2, if_pos rfl]
      · rw [g1, g2, e1, e2, if_neg (fun z => p3 z.symm)]
        omega
    constructor
    · rintro ⟨r, h1, h2, h3⟩; exact ⟨r, h1, h2, (per r h1).mp h3⟩
    · rintro ⟨r, h1, h2, h3⟩; exact ⟨r, h1, h2, (per r h1).mpr h3⟩
  constructor
  · intro h i hi hb; exact (key i hi hb).mp (h i hi hb)
  · intro h i hi hb; exact (key i hi hb).mpr (h i hi hb)
section
variable {lv qu ai st fo an bo tc oc ac : Int32} {a1 : Nat → Int64} {a2 : Nat → Int32} {a3 : Nat → Int32} {a4 : Nat → Int32} {a5 : Nat → Int32} {a6 : Nat → Int32} {a7 : Nat → Int32} {a8 : Nat → Int32} {a9 : Nat → Int32} {a10 : Nat → Int64} {a11 : Nat → Int64} {a12 : Nat → Int64} {a13 : Nat → Int32} {a14 : Nat → Int32} {a15 : Nat → Int32} {a16 : Nat → Int32} {a17 : Nat → Int32} {a18 : Nat → Int32} {a19 : Nat → Int32} {a20 : Nat → Int32} {a21 : Nat → Int32} {a22 : Nat → Int32} {a23 : Nat → Int32} {a24 : Nat → Int32} {a25 : Nat → Int32}
theorem tw_leapfrog {post : St2 → Prop} {q w m th : Nat} {P Q c : Nat → Nat} {L : Nat → Nat → Nat} (hqu : qu = nI q) (hq : q < 2) (hw : a6 q = nI w) (hai : ai = nI m) (hm : ∃ i, i < 4 ∧ m.testBit i = true) (hqa : tj_QA a4 a5 q m P Q) (ht : tj_vs m (fun i => 2 ^ P i ||| 2 ^ Q i) 4 = th) (hL : ∀ i, i < 4 → m.testBit i = true → tj_LQ a7 a8 i (c i) (L i)) (hD : tj_DG a15) (han : an = 0) (h10 : ∀ c, c < 3136 → tj_in a10 c = false)
    (H : ∀ an' oc' ac' b10 b15 b18 b19 b20 b21 b22 b23 b24 b25, tj_DG b15 → ((an' = 0 ∧ ¬ ∃ t, tj_ST m P Q c L a9 t) ∨ (an' = 1 ∧ ∃ t, tj_ST m P Q c L a9 t)) → (fo = 0 → (∀ v, v < 5 → w.testBit v = true → th.testBit v = true) → ∀ k, k < 3136 → (tj_in b10 k = true ↔ ∃ t, tj_ST m P Q c L a9 t ∧ tj_code w t 5 = k)) → post (lv, qu, ai, st, fo, an', bo, tc, oc', ac', a1, a2, a3, a4, a5, a6, a7, a8, a9, b10, a11, a12, a13, a14, b15, a16, a17, b18, b19, b20, b21, b22, b23, b24, b25)) : wpX_leapfrog post (lv, qu, ai, st, fo, an, bo, tc, oc, ac, a1, a2, a3, a4, a5, a6, a7, a8, a9, a10, a11, a12, a13, a14, a15, a16, a17, a18, a19, a20, a21, a22, a23, a24, a25) := by
  have hth : ∀ v, th.testBit v = true ↔ ∃ i, i < 4 ∧ m.testBit i = true ∧ (v = P i ∨ v = Q i) := by
    intro v
    rw [← ht, tj_vs_bit]
    constructor
    · rintro ⟨i, h1, h2, h3⟩; exact ⟨i, h1, h2, (tj_two _ _ _).mp h3⟩
    · rintro ⟨i, h1, h2, h3⟩; exact ⟨i, h1, h2, (tj_two _ _ _).mpr h3⟩
  have hpq : ∀ i, i < 4 → m.testBit i = true → P i < 5 ∧ Q i < 5 ∧ P i ≠ Q i ∧ th.testBit (P i) = true ∧ th.testBit (Q i) = true := by
    intro i hi hb
    obtain ⟨-, -, -, -, g1, g2, g3⟩ := hqa i hi hb
    exact ⟨g1, g2, g3, (hth _).mpr ⟨i, hi, hb, Or.inl rfl⟩, (hth _).mpr ⟨i, hi, hb, Or.inr rfl⟩⟩
  have hop := tj_OP_mk th w
  have hop' := hop
  obtain ⟨o1, o2, o3, o4⟩ := hop'
  obtain ⟨k1, k2, hk⟩ : ∃ k1 k2 : Nat → Nat, ∀ i, i < 4 → m.testBit i = true → k1 i < k2 i ∧ ((k1 i = tj_ps th w (P i) ∧ k2 i = tj_ps th w (Q i)) ∨ (k1 i = tj_ps th w (Q i) ∧ k2 i = tj_ps th w (P i))) := by
    refine ⟨fun i => min (tj_ps th w (P i)) (tj_ps th w (Q i)), fun i => max (tj_ps th w (P i)) (tj_ps th w (Q i)), fun i hi hb => ?_⟩
    obtain ⟨p1, p2, p3, p4, p5⟩ := hpq i hi hb
    have e1 := (o2 (P i) p1 p4).2
    have e2 := (o2 (Q i) p2 p5).2
    have hne : tj_ps th w (P i) ≠ tj_ps th w (Q i) := fun z => p3 (by rw [← e1, ← e2, z])
    dsimp only
    omega
  have hkM : ∀ i, i < 4 → m.testBit i = true → k2 i < tj_M th w := by
    intro i hi hb
    obtain ⟨p1, p2, p3, p4, p5⟩ := hpq i hi hb
    have e1 := (o2 (P i) p1 p4).1
    have e2 := (o2 (Q i) p2 p5).1
    have := hk i hi hb
    omega
  have hM0 : 0 < tj_M th w := by
    obtain ⟨i, hi, hb⟩ := hm
    have := hkM i hi hb
    omega
  unfold wpX_leapfrog
  refine tw_order hqu hai hq hqa hw ht (fun b18 h18 => ?_)
  refine pk_loop (fun f i (u : (Nat → Int32) × (Nat → Int32) × (Nat → Int32) × (Nat → Int32) × (Nat → Int32) × (Nat → Int32) × (Nat → Int32)) => wX_leapfrog_6 post f (nI i) lv qu ai st fo an bo tc (nI (tj_M th w)) (nI (tj_A th w)) a1 a2 a3 a4 a5 a6 a7 a8 a9 a10 a11 a12 a13 a14 u.1 a16 a17 b18 u.2.1 u.2.2.1 u.2.2.2.1 u.2.2.2.2.1 u.2.2.2.2.2.1 u.2.2.2.2.2.2 a25) (fun i u => tj_DG u.1 ∧ ∃ (n : Nat → Nat) (Z : Nat → Nat → Nat), ∀ j, j < i → m.testBit j = true → tj_TR u.2.1 u.2.2.1 u.2.2.2.1 u.2.2.2.2.1 u.2.2.2.2.2.1 u.2.2.2.2.2.2 j (tj_od th w (k1 j)) (tj_od th w (k2 j)) (n j) (Z j) ∧ ∀ z, (∃ r, r < n j ∧ Z j r = z) ↔ ∃ r, r < c j ∧ tj_b (a9 j) r = true ∧ tj_zz (tj_od th w (k1 j)) (P j) (L j r) = z) 4 0 (a15, a19, a20, a21, a22, a23, a24) (by omega) ⟨hD, fun _ => 0, fun _ _ => 0, fun j hj => absurd hj (by omega)⟩ ?_ ?_
  · intro f u hu
    obtain ⟨u15, u19, u20, u21, u22, u23, u24⟩ := u
    obtain ⟨hD', n, Z, hTR⟩ := hu
    dsimp only at hD' hTR
    show wX_leapfrog_6 post (f + 1) (nI 4) lv qu ai st fo an bo tc (nI (tj_M th w)) (nI (tj_A th w)) a1 a2 a3 a4 a5 a6 a7 a8 a9 a10 a11 a12 a13 a14 u15 a16 a17 b18 u19 u20 u21 u22 u23 u24 a25
    refine br_t (by decide) ?_
    have hsa : tj_SA m (tj_od th w) k1 k2 n Z = tj_ST m P Q c L a9 := funext (fun t => propext (tj_SA_ST hop hpq (fun i hi hb => (hk i hi hb).2) (fun i hi hb r hr => ((hL i hi hb).2.2 r hr).1) (fun i hi hb => (hTR i hi hb).2) t))
    refine tw_lf37 (w := w) (m := m) (od := tj_od th w) (k1 := k1) (k2 := k2) (n := n) (Z := Z) (s0 := fun _ => 0) hqu hq hw hai rfl rfl hM0 o3 ⟨o4, fun k hk => ⟨h18 k hk, (o1 k hk).1⟩, fun j k hj hk e => ?_, fun i hi hb => ?_, fun k hk' => ?_⟩ (fun k hk => (o1 k hk).2.2.2) hD' (fun j hj hb => ?_) han h10 (fun an' b10 b15 b22 b23 b24 b25 g1 g2 g3 => ?_)
    · rw [← (o1 j hj).2.2.1, ← (o1 k hk).2.2.1, e]
    · obtain ⟨t1, t2, t3, t4, t5, t6, t7, t8, t9⟩ := (hTR i hi hb).1
      exact ⟨t1, t2, t3, (hk i hi hb).1, hkM i hi hb, t4, t5, t6⟩
    · obtain ⟨i, h1, h2, h3⟩ := (hth _).mp (o1 k hk').2.1
      have e := (o1 k hk').2.2.1
      refine ⟨i, h1, h2, ?_⟩
      have := (hk i h1 h2).2
      rcases h3 with h3 | h3
      · rw [h3] at e; omega
      · rw [h3] at e; omega
    · obtain ⟨t1, t2, t3, t4, t5, t6, t7, t8, t9⟩ := (hTR j hj hb).1
      refine ⟨by rw [tj_dn0 (hk j hj hb).1 (Nat.zero_le _)]; exact t9, t7, t8, fun l => absurd l (Nat.not_lt_zero _), fun l => absurd l (Nat.not_lt_zero _)⟩
    · rw [hsa] at g2 g3
      refine H an' _ _ b10 b15 b18 u19 u20 u21 b22 b23 b24 b25 g1 g2 (fun hfo hwh => g3 hfo (fun v hv hb => ?_))
      obtain ⟨p1, p2⟩ := o2 v hv (hwh v hv hb)
      exact ⟨_, p1, p2⟩
  · intro f i u hi hu hw'
    obtain ⟨u15, u19, u20, u21, u22, u23, u24⟩ := u
    obtain ⟨hD', n, Z, hTR⟩ := hu
    dsimp only at hD' hTR
    show wX_leapfrog_6 post (f + 1) (nI i) lv qu ai st fo an bo tc (nI (tj_M th w)) (nI (tj_A th w)) a1 a2 a3 a4 a5 a6 a7 a8 a9 a10 a11 a12 a13 a14 u15 a16 a17 b18 u19 u20 u21 u22 u23 u24 a25
    subst hai
    refine br_f (nI_ge (b := 4) hi (by decide)) (ek_if (tj_b0 (nI m) (show i < 32 by omega)) (fun z => ?_) (fun z => ?_))
    · rw [tj_nI m (by omega)] at z
      refine nm_r (nI_1 i) (hw' (u15, u19, u20, u21, u22, u23, u24) ⟨hD', n, Z, fun j hj hb => ?_⟩)
      have : j ≠ i := fun e => by rw [e, z] at hb; exact absurd hb (by decide)
      exact hTR j (by omega) hb
    · have hb := tj_nf z
      rw [tj_nI m (by omega)] at hb
      obtain ⟨p1, p2, p3, p4, p5⟩ := hpq i hi hb
      refine tw_buildTrie (th := th) (w := w) (M := tj_M th w) (A := tj_A th w) (od := tj_od th w) (ps := tj_ps th w) (k1 := k1 i) (k2 := k2 i) rfl hi hqu hq rfl hop h18 (hqa i hi hb) p4 p5 (hL i hi hb) hD' (hk i hi hb).1 (hk i hi hb).2 (fun b15 b19 b20 b21 b22 b23 b24 ni Zi g1 g2 g3 g4 => nm_r (nI_1 i) (hw' (b15, b19, b20, b21, b22, b23, b24) ⟨g1, fun j => if j = i then ni else n j, fun j => if j = i then Zi else Z j, fun j hj hb' => ?_⟩))
      dsimp only
      by_cases e : j = i
      · subst e
        rw [if_pos rfl, if_pos rfl]
        exact ⟨g2, g3⟩
      · rw [if_neg e, if_neg e]
        exact ⟨tj_TR_FR (hTR j (by omega) hb').1 g4 e, (hTR j (by omega) hb').2⟩
theorem tw_search {post : St2 → Prop} {q w m th : Nat} {P Q c : Nat → Nat} {L : Nat → Nat → Nat} (hlv : lv = 2) (hqu : qu = nI q) (hq : q < 2) (hw : a6 q = nI w) (hai : ai = nI m) (hm : ∃ i, i < 4 ∧ m.testBit i = true) (hqa : tj_QA a4 a5 q m P Q) (ht : tj_vs m (fun i => 2 ^ P i ||| 2 ^ Q i) 4 = th) (hL : ∀ i, i < 4 → m.testBit i = true → tj_LQ a7 a8 i (c i) (L i)) (hD : tj_DG a15)
    (H : ∀ an' oc' ac' b10 b15 b18 b19 b20 b21 b22 b23 b24 b25, tj_DG b15 → ((an' = 0 ∧ ¬ ∃ t, tj_ST m P Q c L a9 t) ∨ (an' = 1 ∧ ∃ t, tj_ST m P Q c L a9 t)) → (fo = 0 → (∀ v, v < 5 → w.testBit v = true → th.testBit v = true) → ∀ k, k < 3136 → (tj_in b10 k = true ↔ ∃ t, tj_ST m P Q c L a9 t ∧ tj_code w t 5 = k)) → post (lv, qu, ai, st, fo, an', bo, tc, oc', ac', a1, a2, a3, a4, a5, a6, a7, a8, a9, b10, a11, a12, a13, a14, b15, a16, a17, b18, b19, b20, b21, b22, b23, b24, b25)) : wpX_searchByWay post (lv, qu, ai, st, fo, an, bo, tc, oc, ac, a1, a2, a3, a4, a5, a6, a7, a8, a9, a10, a11, a12, a13, a14, a15, a16, a17, a18, a19, a20, a21, a22, a23, a24, a25) := by
  unfold wpX_searchByWay
  refine tw_empty (fun b10 h10 => br_t hlv ?_)
  exact tw_leapfrog hqu hq hw hai hm hqa ht hL hD rfl h10 H
/-- an assignment satisfies all atoms in the relation R -/
def tj_RT (m : Nat) (P Q : Nat → Nat) (R : Nat → Bool) (t : Nat → Nat) : Prop := (∀ v, v < 5 → t v < 5) ∧ ∀ i, i < 4 → m.testBit i = true → R (5 * t (P i) + t (Q i)) = true
theorem tj_ST_RT {m : Nat} {P Q : Nat → Nat} {R : Nat → Bool} {b7 b8 b9 : Nat → Int32} (hpq : ∀ i, i < 4 → m.testBit i = true → P i < 5 ∧ Q i < 5) (hc : tj_cnt R 25 ≤ 16) (h : ∀ j, j < 4 → m.testBit j = true → tj_LS b7 b8 b9 j R 25) : tj_ST m P Q (fun _ => tj_cnt R 25) (fun _ => tj_nth R 25) b9 = tj_RT m P Q R := by
  funext t
  apply propext
  refine and_congr_right (fun ht => ?_)
  have key : ∀ i, i < 4 → m.testBit i = true → ((∃ r, r < tj_cnt R 25 ∧ tj_b (b9 i) r = true ∧ tj_nth R 25 r = 5 * t (P i) + t (Q i)) ↔ R (5 * t (P i) + t (Q i)) = true) := by
    intro i hi hb
    obtain ⟨p1, p2⟩ := hpq i hi hb
    have t1 := ht _ p1
    have t2 := ht _ p2
    constructor
    · rintro ⟨r, h1, _, h3⟩
      rw [← h3]
      exact (tj_nth_spec R 25 r h1).2.1
    · intro hR
      have hl : tj_cnt R (5 * t (P i) + t (Q i)) < tj_cnt R 25 := tj_cnt_lt (by omega) hR
      obtain ⟨s1, s2, s3⟩ := tj_nth_spec R 25 _ hl
      refine ⟨_, hl, ?_, tj_cnt_inj s2 hR s3⟩
      rw [(h i hi hb).2.2 _ (by omega)]
      exact decide_eq_true hl
  constructor
  · intro h i hi hb; exact (key i hi hb).mp (h i hi hb)
  · intro h i hi hb; exact (key i hi hb).mpr (h i hi hb)
theorem tw_workOut {post : St2 → Prop} {x y z : Int32} {q m f w th : Nat} {P Q : Nat → Nat} {R : Nat → Bool} (hx : x = nI q) (hy : y = nI m) (hz : z = nI f) (hlv : lv = 2) (hq : q < 2) (hf : f < 12) (hw : a6 q = nI w) (hm : ∃ i, i < 4 ∧ m.testBit i = true) (hqa : tj_QA a4 a5 q m P Q) (ht : tj_vs m (fun i => 2 ^ P i ||| 2 ^ Q i) 4 = th) (hwh : ∀ v, v < 5 → w.testBit v = true → th.testBit v = true) (hR : ∀ row, row < 25 → tj_h (a1 f) row = R row) (hc : tj_cnt R 25 ≤ 16) (hD : tj_DG a15)
    (H : ∀ qu' ai' st' fo' an' oc' ac' b7 b8 b9 b10 b15 b18 b19 b20 b21 b22 b23 b24 b25, tj_DG b15 → (∀ k, k < 3136 → (tj_in b10 k = true ↔ ∃ t, tj_RT m P Q R t ∧ tj_code w t 5 = k)) → post (lv, qu', ai', st', fo', an', bo, tc, oc', ac', a1, a2, a3, a4, a5, a6, b7, b8, b9, b10, a11, a12, a13, a14, b15, a16, a17, b18, b19, b20, b21, b22, b23, b24, b25)) : wpX_workOut post (lv, qu, ai, st, fo, an, bo, tc, oc, ac, a1, a2, a3, a4, a5, a6, a7, a8, a9, a10, a11, a12, a13, a14, a15, a16, a17, a18, a19, a20, a21, a22, a23, a24, a25) x y z 0 := by
  unfold wpX_workOut
  refine tw_start hx hy hz hq hf hR hc hqa (fun b7 b8 b9 hLS => ⟨by rfl, by rfl, ?_⟩)
  refine tw_search (w := w) (c := fun _ => tj_cnt R 25) (L := fun _ => tj_nth R 25) hlv rfl hq hw rfl hm hqa ht (fun i hi hb => tj_LS_LQ (hLS i hi hb) hc) hD (fun an' oc' ac' b10 b15 b18 b19 b20 b21 b22 b23 b24 b25 g1 g2 g3 => ?_)
  rw [tj_ST_RT (fun i hi hb => ⟨(hqa i hi hb).2.2.2.2.1, (hqa i hi hb).2.2.2.2.2.1⟩) hc hLS] at g3
  exact H _ _ _ _ an' oc' ac' b7 b8 b9 b10 b15 b18 b19 b20 b21 b22 b23 b24 b25 g1 (g3 rfl hwh)
end
end
section
theorem tj_cnt_add (p : Nat → Bool) (a b : Nat) : tj_cnt p (a + b) = tj_cnt p a + tj_cnt (fun i => p (a + i)) b := by
  induction b with
  | zero => rfl
  | succ b ih =>
    show tj_cnt p (a + b) + (if p (a + b) = true then 1 else 0) = tj_cnt p a + (tj_cnt (fun i => p (a + i)) b + (if p (a + b) = true then 1 else 0))
    rw [ih]
    omega
theorem tj_in_word (f : Nat → Int64) (k : Nat) : tj_cnt (tj_in f) (64 * (k + 1)) = tj_cnt (tj_in f) (64 * k) + tj_pc 64 (f k).toBitVec.toNat := by
  rw [show 64 * (k + 1) = 64 * k + 64 by omega, tj_cnt_add, tj_pc_cnt]
  congr 1
  refine tj_cnt_congr (fun j hj => ?_)
  unfold tj_in
  rw [show (64 * k + j) / 64 = k by omega, show (64 * k + j) % 64 = j by omega]
  rfl
/-- a question as it stands: n atoms, asked w, their variables th -/
def tj_QQ (a3 a4 a5 a6 : Nat → Int32) (q n w th : Nat) (P Q : Nat → Nat) : Prop := q < 2 ∧ 0 < n ∧ n < 5 ∧ a3 q = nI n ∧ tj_QA a4 a5 q (2 ^ n - 1) P Q ∧ a6 q = nI w ∧ tj_vs (2 ^ n - 1) (fun i => 2 ^ P i ||| 2 ^ Q i) 4 = th
theorem tj_pw_bit : ∀ n, n < 5 → 0 < n → (2 ^ n - 1).testBit 0 = true := by decide
section
variable {lv qu ai st fo an bo tc oc ac : Int32} {a1 : Nat → Int64} {a2 : Nat → Int32} {a3 : Nat → Int32} {a4 : Nat → Int32} {a5 : Nat → Int32} {a6 : Nat → Int32} {a7 : Nat → Int32} {a8 : Nat → Int32} {a9 : Nat → Int32} {a10 : Nat → Int64} {a11 : Nat → Int64} {a12 : Nat → Int64} {a13 : Nat → Int32} {a14 : Nat → Int32} {a15 : Nat → Int32} {a16 : Nat → Int32} {a17 : Nat → Int32} {a18 : Nat → Int32} {a19 : Nat → Int32} {a20 : Nat → Int32} {a21 : Nat → Int32} {a22 : Nat → Int32} {a23 : Nat → Int32} {a24 : Nat → Int32} {a25 : Nat → Int32}
theorem tw_onesIn {post : Int32 → Prop} (H : post (nI (tj_cnt (tj_in a10) 3136))) : wpX_onesIn post (lv, qu, ai, st, fo, an, bo, tc, oc, ac, a1, a2, a3, a4, a5, a6, a7, a8, a9, a10, a11, a12, a13, a14, a15, a16, a17, a18, a19, a20, a21, a22, a23, a24, a25) := by
  have inner : ∀ (J : Int32 → Int32 → Prop) (k c x : Nat), x < 2 ^ 64 → J (nI (c + tj_pc 64 x)) (nI (k + 1)) → ∃ f, wX_onesIn_15 post J (nI k) lv qu ai st fo an bo tc oc ac a1 a2 a3 a4 a5 a6 a7 a8 a9 a10 a11 a12 a13 a14 a15 a16 a17 a18 a19 a20 a21 a22 a23 a24 a25 f (nI c) (lN x) := by
    intro J k c x hx hJ
    refine loop_m (fun f (u : Nat × Nat) => wX_onesIn_15 post J (nI k) lv qu ai st fo an bo tc oc ac a1 a2 a3 a4 a5 a6 a7 a8 a9 a10 a11 a12 a13 a14 a15 a16 a17 a18 a19 a20 a21 a22 a23 a24 a25 f (nI u.1) (lN u.2)) (fun u => u.2 < 2 ^ 64 ∧ u.1 + tj_pc 64 u.2 = c + tj_pc 64 x) (fun u => tj_pc 64 u.2) ?_ (c, x) ⟨hx, rfl⟩
    intro f u hu hw
    obtain ⟨c', x'⟩ := u
    obtain ⟨h1, h2⟩ := hu
    dsimp only at h1 h2
    have hinj : ∀ a, a < 2 ^ 64 → (lN a).toBitVec.toNat = a := by
      intro a ha
      show (BitVec.ofNat 64 a).toNat = a
      rw [BitVec.toNat_ofNat, Nat.mod_eq_of_lt ha]
    by_cases e : x' = 0
    · subst e
      rw [tj_pc_0, Nat.add_zero] at h2
      refine br_t rfl (nm_r (nI_1 k) ?_)
      rw [h2]
      exact hJ
    · have hs := tj_pc_step 64 x' e h1
      have hlt : x' &&& (x' - 1) < 2 ^ 64 := Nat.lt_of_le_of_lt Nat.and_le_left h1
      have e1 : lN x' &&& (lN x' - 1) = lN (x' &&& (x' - 1)) := by
        have t : lN x' - 1 = lN (x' - 1) := lN_sub (a := x') (b := 1) (by omega)
        rw [t]
        apply Int64.toBitVec_inj.mp
        apply BitVec.eq_of_toNat_eq
        rw [Int64.toBitVec_and, BitVec.toNat_and, hinj x' h1, hinj (x' - 1) (by omega), hinj _ hlt]
      refine br_f (fun z => e ?_) (nm_r e1 (nm_r (nI_1 c') (hw (c' + 1, x' &&& (x' - 1)) ⟨hlt, ?_⟩ ?_)))
      · have t := congrArg (fun y : Int64 => y.toBitVec.toNat) z
        try dsimp only at t
        rw [hinj x' h1] at t
        exact t
      · dsimp only; omega
      · dsimp only; omega
  refine pk_loop (σ := Unit) (fun f k _ => wX_onesIn_4 post lv qu ai st fo an bo tc oc ac a1 a2 a3 a4 a5 a6 a7 a8 a9 a10 a11 a12 a13 a14 a15 a16 a17 a18 a19 a20 a21 a22 a23 a24 a25 f (nI (tj_cnt (tj_in a10) (64 * k))) (nI k)) (fun _ _ => True) 49 0 () (by omega) trivial ?_ ?_
  · intro f _ _
    exact br_t (by decide) H
  · intro f k _ hk _ hw
    refine br_f (nI_ge (b := 49) hk (by decide)) ⟨vp_in_nI hk (by decide), nm_r (e' := lN (a10 k).toBitVec.toNat) ?_ (inner _ k _ _ (a10 k).toBitVec.isLt ?_)⟩
    · rw [nI_clamp (by omega)]
      apply Int64.toBitVec_inj.mp
      show (a10 k).toBitVec = BitVec.ofNat 64 (a10 k).toBitVec.toNat
      simp
    · have t := hw () trivial
      try dsimp only at t
      rw [tj_in_word] at t
      exact t
theorem tw_own {post : St2 → Prop} {x : Int32} {q n w th : Nat} {P Q : Nat → Nat} {R : Nat → Bool} (hx : x = nI q) (hlv : lv = 2) (hQ : tj_QQ a3 a4 a5 a6 q n w th P Q) (hwh : ∀ v, v < 5 → w.testBit v = true → th.testBit v = true) (hR : ∀ row, row < 25 → tj_h (a1 0) row = R row) (hc : tj_cnt R 25 ≤ 16) (hD : tj_DG a15)
    (H : ∀ qu' ai' st' fo' an' oc' ac' b7 b8 b9 b10 b15 b18 b19 b20 b21 b22 b23 b24 b25, tj_DG b15 → (∀ k, k < 3136 → (tj_in b10 k = true ↔ ∃ t, tj_RT (2 ^ n - 1) P Q R t ∧ tj_code w t 5 = k)) → post (lv, qu', ai', st', fo', an', bo, tc, oc', ac', a1, a2, a3, a4, a5, a6, b7, b8, b9, b10, a11, a12, a13, a14, b15, a16, a17, b18, b19, b20, b21, b22, b23, b24, b25)) : wpX_answerOwn post (lv, qu, ai, st, fo, an, bo, tc, oc, ac, a1, a2, a3, a4, a5, a6, a7, a8, a9, a10, a11, a12, a13, a14, a15, a16, a17, a18, a19, a20, a21, a22, a23, a24, a25) x := by
  obtain ⟨q1, q2, q3, q4, q5, q6, q7⟩ := hQ
  unfold wpX_answerOwn
  refine tw_allAtoms hx q1 q4 q3 ?_
  exact tw_workOut (f := 0) hx rfl rfl hlv q1 (by decide) q6 ⟨0, by decide, tj_pw_bit n q3 q2⟩ q5 q7 hwh hR hc hD H
theorem tw_wholeQ {post : Int32 → Prop} {x : Int32} {q n w th : Nat} {P Q : Nat → Nat} (hx : x = nI q) (hQ : tj_QQ a3 a4 a5 a6 q n w th P Q) (hz : (nI w &&& (nI th ^^^ (-1))) = 0) (h : post 1) : wpX_whole post (lv, qu, ai, st, fo, an, bo, tc, oc, ac, a1, a2, a3, a4, a5, a6, a7, a8, a9, a10, a11, a12, a13, a14, a15, a16, a17, a18, a19, a20, a21, a22, a23, a24, a25) x := by
  obtain ⟨q1, q2, q3, q4, q5, q6, q7⟩ := hQ
  exact tw_whole_t hx q1 q2 q3 q4 q5 q6 q7 hz h
theorem tw_wholeN {post : Int32 → Prop} {x : Int32} {q n w th : Nat} {P Q : Nat → Nat} (hx : x = nI q) (hQ : tj_QQ a3 a4 a5 a6 q n w th P Q) (hz : ¬ (nI w &&& (nI th ^^^ (-1))) = 0) (h : post 0) : wpX_whole post (lv, qu, ai, st, fo, an, bo, tc, oc, ac, a1, a2, a3, a4, a5, a6, a7, a8, a9, a10, a11, a12, a13, a14, a15, a16, a17, a18, a19, a20, a21, a22, a23, a24, a25) x := by
  obtain ⟨q1, q2, q3, q4, q5, q6, q7⟩ := hQ
  exact tw_whole_f hx q1 q2 q3 q4 q5 q6 q7 hz h
theorem tw_count {post : Int32 → St2 → Prop} {x : Int32} {q n w th : Nat} {P Q : Nat → Nat} {R : Nat → Bool} (hx : x = nI q) (hlv : lv = 2) (hQ : tj_QQ a3 a4 a5 a6 q n w th P Q) (hz : (nI w &&& (nI th ^^^ (-1))) = 0) (hwh : ∀ v, v < 5 → w.testBit v = true → th.testBit v = true) (hR : ∀ row, row < 25 → tj_h (a1 0) row = R row) (hc : tj_cnt R 25 ≤ 16) (hD : tj_DG a15)
    (H : ∀ B : Nat → Bool, (∀ k, k < 3136 → (B k = true ↔ ∃ t, tj_RT (2 ^ n - 1) P Q R t ∧ tj_code w t 5 = k)) → ∀ qu' ai' st' fo' an' oc' ac' b7 b8 b9 b10 b15 b18 b19 b20 b21 b22 b23 b24 b25, tj_DG b15 → post (nI (tj_cnt B 3136)) (lv, qu', ai', st', fo', an', bo, tc, oc', ac', a1, a2, a3, a4, a5, a6, b7, b8, b9, b10, a11, a12, a13, a14, b15, a16, a17, b18, b19, b20, b21, b22, b23, b24, b25)) : wpX_count post (lv, qu, ai, st, fo, an, bo, tc, oc, ac, a1, a2, a3, a4, a5, a6, a7, a8, a9, a10, a11, a12, a13, a14, a15, a16, a17, a18, a19, a20, a21, a22, a23, a24, a25) x := by
  unfold wpX_count
  refine tw_isQ hx hQ.1 (br_f (by decide) (tw_wholeQ hx hQ hz (br_f (by decide) ?_)))
  refine tw_own hx hlv hQ hwh hR hc hD (fun qu' ai' st' fo' an' oc' ac' b7 b8 b9 b10 b15 b18 b19 b20 b21 b22 b23 b24 b25 g1 g2 => ?_)
  exact tw_onesIn (H _ g2 _ _ _ _ _ _ _ _ _ _ _ _ _ _ _ _ _ _ _ _ g1)
theorem tw_countN {post : Int32 → St2 → Prop} {x : Int32} {q n w th : Nat} {P Q : Nat → Nat} (hx : x = nI q) (hQ : tj_QQ a3 a4 a5 a6 q n w th P Q) (hz : ¬ (nI w &&& (nI th ^^^ (-1))) = 0) (H : post (-3) (lv, qu, ai, st, fo, an, bo, tc, oc, ac, a1, a2, a3, a4, a5, a6, a7, a8, a9, a10, a11, a12, a13, a14, a15, a16, a17, a18, a19, a20, a21, a22, a23, a24, a25)) : wpX_count post (lv, qu, ai, st, fo, an, bo, tc, oc, ac, a1, a2, a3, a4, a5, a6, a7, a8, a9, a10, a11, a12, a13, a14, a15, a16, a17, a18, a19, a20, a21, a22, a23, a24, a25) x := by
  unfold wpX_count
  exact tw_isQ hx hQ.1 (br_f (by decide) (tw_wholeN hx hQ hz (br_t rfl H)))
theorem tw_answer35 {post : Int32 → St2 → Prop} {k : Nat} (hk : k < 2 ^ 31) (H : ∀ r, ((∃ a, a < 3125 ∧ tj_in a10 a = true ∧ tj_cnt (tj_in a10) a = k ∧ r = nI a) ∨ (tj_cnt (tj_in a10) 3125 ≤ k ∧ r = -3)) → post r (lv, qu, ai, st, fo, an, bo, tc, oc, ac, a1, a2, a3, a4, a5, a6, a7, a8, a9, a10, a11, a12, a13, a14, a15, a16, a17, a18, a19, a20, a21, a22, a23, a24, a25)) : ∃ f, wX_answer_35 post lv qu ai st fo an bo tc oc ac a1 a2 a3 a4 a5 a6 a7 a8 a9 a10 a11 a12 a13 a14 a15 a16 a17 a18 a19 a20 a21 a22 a23 a24 a25 f (nI k) 0 := by
  refine Exists.elim (pk_loop (σ := Unit) (fun f a _ => tj_cnt (tj_in a10) a ≤ k → wX_answer_35 post lv qu ai st fo an bo tc oc ac a1 a2 a3 a4 a5 a6 a7 a8 a9 a10 a11 a12 a13 a14 a15 a16 a17 a18 a19 a20 a21 a22 a23 a24 a25 f (nI (k - tj_cnt (tj_in a10) a)) (nI a)) (fun _ _ => True) 3125 0 () (by omega) trivial ?_ ?_) (fun f hf => ⟨f, hf (Nat.zero_le _)⟩)
  · intro f _ _ hle
    exact br_t (by decide) (H _ (Or.inr ⟨hle, rfl⟩))
  · intro f a _ ha _ hw hle
    refine br_f (nI_ge (b := 3125) ha (by decide)) ?_
    refine tw_isIn rfl (by omega) (fun z => br_t rfl (nm_r (nI_1 a) ?_)) (fun z => br_f (by decide) ?_)
    · have t := hw () trivial
      rw [tj_cnt_f z] at t
      exact t hle
    · refine pk_eq (k - tj_cnt (tj_in a10) a) 0 (fun e => H _ (Or.inl ⟨a, ha, z, by omega, rfl⟩)) (fun e => ?_)
      have t := hw () trivial
      rw [tj_cnt_t z] at t
      refine nm_r (e' := nI (k - (tj_cnt (tj_in a10) a + 1))) ?_ (nm_r (nI_1 a) (t (by omega)))
      rw [show k - tj_cnt (tj_in a10) a = (k - (tj_cnt (tj_in a10) a + 1)) + 1 by omega]
      exact pk_m1 _
theorem tw_answer {post : Int32 → St2 → Prop} {x y : Int32} {q n w th k : Nat} {P Q : Nat → Nat} {R : Nat → Bool} (hx : x = nI q) (hy : y = nI k) (hk : k < 2 ^ 31) (hlv : lv = 2) (hQ : tj_QQ a3 a4 a5 a6 q n w th P Q) (hz : (nI w &&& (nI th ^^^ (-1))) = 0) (hwh : ∀ v, v < 5 → w.testBit v = true → th.testBit v = true) (hR : ∀ row, row < 25 → tj_h (a1 0) row = R row) (hc : tj_cnt R 25 ≤ 16) (hD : tj_DG a15)
    (H : ∀ B : Nat → Bool, (∀ k, k < 3136 → (B k = true ↔ ∃ t, tj_RT (2 ^ n - 1) P Q R t ∧ tj_code w t 5 = k)) → ∀ r, ((∃ a, a < 3125 ∧ B a = true ∧ tj_cnt B a = k ∧ r = nI a) ∨ (tj_cnt B 3125 ≤ k ∧ r = -3)) → ∀ qu' ai' st' fo' an' oc' ac' b7 b8 b9 b10 b15 b18 b19 b20 b21 b22 b23 b24 b25, tj_DG b15 → post r (lv, qu', ai', st', fo', an', bo, tc, oc', ac', a1, a2, a3, a4, a5, a6, b7, b8, b9, b10, a11, a12, a13, a14, b15, a16, a17, b18, b19, b20, b21, b22, b23, b24, b25)) : wpX_answer post (lv, qu, ai, st, fo, an, bo, tc, oc, ac, a1, a2, a3, a4, a5, a6, a7, a8, a9, a10, a11, a12, a13, a14, a15, a16, a17, a18, a19, a20, a21, a22, a23, a24, a25) x y := by
  subst hy
  unfold wpX_answer
  refine tw_isQ hx hQ.1 (br_f (by decide) (tw_wholeQ hx hQ hz (br_f (by decide) (br_t (nI_pos' hk) ?_))))
  refine tw_own hx hlv hQ hwh hR hc hD (fun qu' ai' st' fo' an' oc' ac' b7 b8 b9 b10 b15 b18 b19 b20 b21 b22 b23 b24 b25 g1 g2 => ?_)
  exact tw_answer35 hk (fun r hr => H _ g2 r hr _ _ _ _ _ _ _ _ _ _ _ _ _ _ _ _ _ _ _ _ g1)
theorem tw_often103 {post : Int32 → St2 → Prop} {p : Nat} (hp : p < 5) (H : post (nI (tj_cnt (fun a => tj_in a10 a && decide (a % 5 = p)) 3125)) (lv, qu, ai, st, fo, an, bo, tc, oc, ac, a1, a2, a3, a4, a5, a6, a7, a8, a9, a10, a11, a12, a13, a14, a15, a16, a17, a18, a19, a20, a21, a22, a23, a24, a25)) : ∃ f, wX_often_103 post (nI p) 1 lv qu ai st fo an bo tc oc ac a1 a2 a3 a4 a5 a6 a7 a8 a9 a10 a11 a12 a13 a14 a15 a16 a17 a18 a19 a20 a21 a22 a23 a24 a25 f 0 0 := by
  refine pk_loop (σ := Unit) (fun f a _ => wX_often_103 post (nI p) 1 lv qu ai st fo an bo tc oc ac a1 a2 a3 a4 a5 a6 a7 a8 a9 a10 a11 a12 a13 a14 a15 a16 a17 a18 a19 a20 a21 a22 a23 a24 a25 f (nI (tj_cnt (fun a => tj_in a10 a && decide (a % 5 = p)) a)) (nI a)) (fun _ _ => True) 3125 0 () (by omega) trivial ?_ ?_
  · intro f _ _
    exact br_t (by decide) H
  · intro f a _ ha _ hw
    have t := hw () trivial
    try dsimp only at t
    refine br_f (nI_ge (b := 3125) ha (by decide)) ?_
    refine tw_isIn rfl (by omega) (fun z => br_t rfl (nm_r (nI_1 a) ?_)) (fun z => br_f (by decide) ⟨by decide, by decide, ?_⟩)
    · rw [tj_cnt_f (by rw [z]; rfl)] at t
      exact t
    · have e1 : nI a / 1 = nI a := by
        have := pk_div (a := a) (d := 1) (by omega) (by decide) (by decide)
        rw [Nat.div_one] at this
        exact this
      have e2 : (nI a / 1) - (nI a / 1) / 5 * 5 = nI (a % 5) := by
        rw [e1]
        exact pk_rem (a := a) (d := 5) (by omega) (by decide) (by decide)
      refine pk_eq (a % 5) p (fun e => nm_r (nI_1 _) (nm_r (nI_1 a) ?_)) (fun e => nm_r (nI_1 a) ?_) e2
      · rw [tj_cnt_t (by rw [z, decide_eq_true e]; rfl)] at t
        exact t
      · rw [tj_cnt_f (by rw [z, decide_eq_false e]; rfl)] at t
        exact t
theorem tw_often {post : Int32 → St2 → Prop} {x y z : Int32} {q n th p : Nat} {P Q : Nat → Nat} {R : Nat → Bool} (hx : x = nI q) (hy : y = 2) (hz' : z = nI p) (hp : p < 5) (hlv : lv = 2) (hQ : tj_QQ a3 a4 a5 a6 q n 5 th P Q) (hz : (nI 5 &&& (nI th ^^^ (-1))) = 0) (hwh : ∀ v, v < 5 → (5 : Nat).testBit v = true → th.testBit v = true) (hR : ∀ row, row < 25 → tj_h (a1 0) row = R row) (hc : tj_cnt R 25 ≤ 16) (hD : tj_DG a15)
    (H : ∀ B : Nat → Bool, (∀ k, k < 3136 → (B k = true ↔ ∃ t, tj_RT (2 ^ n - 1) P Q R t ∧ tj_code 5 t 5 = k)) → ∀ qu' ai' st' fo' an' oc' ac' b7 b8 b9 b10 b15 b18 b19 b20 b21 b22 b23 b24 b25, tj_DG b15 → post (nI (tj_cnt (fun a => B a && decide (a % 5 = p)) 3125)) (lv, qu', ai', st', fo', an', bo, tc, oc', ac', a1, a2, a3, a4, a5, a6, b7, b8, b9, b10, a11, a12, a13, a14, b15, a16, a17, b18, b19, b20, b21, b22, b23, b24, b25)) : wpX_often post (lv, qu, ai, st, fo, an, bo, tc, oc, ac, a1, a2, a3, a4, a5, a6, a7, a8, a9, a10, a11, a12, a13, a14, a15, a16, a17, a18, a19, a20, a21, a22, a23, a24, a25) x y z := by
  have q1 := hQ.1
  have q6 := hQ.2.2.2.2.2.1
  have e6 : a6 x.toNatClampNeg = nI 5 := by rw [hx, nI_clamp (by omega)]; exact q6
  have vx : vp_in x 2 := pk_in q 2 q1 hx
  subst hy hz'
  unfold wpX_often
  refine tw_isQ hx q1 (br_f (by decide) (br_f (by decide) (br_f (by decide) (br_f (nI_pos (by omega)) (br_t (nI_lt (b := 5) hp (by decide)) ?_)))))
  refine tw_wholeQ hx hQ hz (br_f (by decide) ⟨vx, br_f (by rw [e6]; decide) ?_⟩)
  refine tw_own hx hlv hQ hwh hR hc hD (fun qu' ai' st' fo' an' oc' ac' b7 b8 b9 b10 b15 b18 b19 b20 b21 b22 b23 b24 b25 g1 g2 => nm_r (show (2 : Int32) + 1 = nI 3 by decide) ⟨3, ?_⟩)
  refine br_f (by decide) ⟨vx, br_t (by rw [e6]; decide) (nm_r (show nI 3 + 1 = nI 4 by decide) ?_)⟩
  refine br_f (by decide) ⟨vx, br_t (by rw [e6]; decide) (nm_r (show nI 4 + 1 = nI 5 by decide) ?_)⟩
  exact br_t (by decide) (tw_often103 hp (H _ g2 _ _ _ _ _ _ _ _ _ _ _ _ _ _ _ _ _ _ _ _ g1))
end
end
section
theorem tj_upd_upd {a b : Nat → Int32} {i : Nat} {x : Int32} (h : ∀ j, j ≠ i → b j = a j) : upd b i x = upd a i x := by
  funext j
  by_cases e : j = i
  · rw [e, pk_us, pk_us]
  · rw [pk_un e, pk_un e, h j e]
theorem tj_upd_same {a b : Nat → Int32} {i : Nat} (h : ∀ j, j ≠ i → b j = a j) : upd b i (a i) = a := by
  funext j
  by_cases e : j = i
  · rw [e, pk_us]
  · rw [pk_un e, h j e]
section
variable {lv qu ai st fo an bo tc oc ac : Int32} {a1 : Nat → Int64} {a2 : Nat → Int32} {a3 : Nat → Int32} {a4 : Nat → Int32} {a5 : Nat → Int32} {a6 : Nat → Int32} {a7 : Nat → Int32} {a8 : Nat → Int32} {a9 : Nat → Int32} {a10 : Nat → Int64} {a11 : Nat → Int64} {a12 : Nat → Int64} {a13 : Nat → Int32} {a14 : Nat → Int32} {a15 : Nat → Int32} {a16 : Nat → Int32} {a17 : Nat → Int32} {a18 : Nat → Int32} {a19 : Nat → Int32} {a20 : Nat → Int32} {a21 : Nat → Int32} {a22 : Nat → Int32} {a23 : Nat → Int32} {a24 : Nat → Int32} {a25 : Nat → Int32}
theorem tw_useful25 {post : Int32 → St2 → Prop} {q w m i th : Nat} {P Q c : Nat → Nat} {L : Nat → Nat → Nat} (hi : i < 4) (hlv : lv = 2) (hqu : qu = nI q) (hq : q < 2) (hw : a6 q = nI w) (hai : ai = nI m) (hb : m.testBit i = true) (hqa : tj_QA a4 a5 q m P Q) (ht : tj_vs m (fun i => 2 ^ P i ||| 2 ^ Q i) 4 = th) (hL : ∀ i, i < 4 → m.testBit i = true → tj_LQ a7 a8 i (c i) (L i)) (hD : tj_DG a15)
    (H : ∀ u fo' an' oc' ac' b10 b15 b18 b19 b20 b21 b22 b23 b24 b25, tj_DG b15 → (∀ r, r < 16 → (tj_b u r = true ↔ (r < c i ∧ tj_b (a9 i) r = true ∧ ∃ t, tj_ST m P Q c L (upd a9 i ((1 : Int32) <<< (nI r &&& 31))) t))) → post u (lv, qu, ai, st, fo', an', bo, tc, oc', ac', a1, a2, a3, a4, a5, a6, a7, a8, a9, b10, a11, a12, a13, a14, b15, a16, a17, b18, b19, b20, b21, b22, b23, b24, b25)) : ∃ f, wX_usefulRows_25 post (nI i) (a9 i) f 0 0 lv qu ai st fo an bo tc oc ac a1 a2 a3 a4 a5 a6 a7 a8 a9 a10 a11 a12 a13 a14 a15 a16 a17 a18 a19 a20 a21 a22 a23 a24 a25 := by
  have c4 : (nI i).toNatClampNeg = i := nI_clamp (by omega)
  have v4 : vp_in (nI i) 4 := vp_in_nI hi (by decide)
  have hc16 := (hL i hi hb).2.1
  have e7 : a7 (nI i).toNatClampNeg = nI (c i) := by rw [c4]; exact (hL i hi hb).1
  refine pk_loop (fun f k (s : Int32 × Int32 × Int32 × Int32 × Int32 × (Nat → Int32) × (Nat → Int64) × (Nat → Int32) × (Nat → Int32) × (Nat → Int32) × (Nat → Int32) × (Nat → Int32) × (Nat → Int32) × (Nat → Int32) × (Nat → Int32) × (Nat → Int32)) => wX_usefulRows_25 post (nI i) (a9 i) f s.1 (nI k) lv qu ai st s.2.1 s.2.2.1 bo tc s.2.2.2.1 s.2.2.2.2.1 a1 a2 a3 a4 a5 a6 a7 a8 s.2.2.2.2.2.1 s.2.2.2.2.2.2.1 a11 a12 a13 a14 s.2.2.2.2.2.2.2.1 a16 a17 s.2.2.2.2.2.2.2.2.1 s.2.2.2.2.2.2.2.2.2.1 s.2.2.2.2.2.2.2.2.2.2.1 s.2.2.2.2.2.2.2.2.2.2.2.1 s.2.2.2.2.2.2.2.2.2.2.2.2.1 s.2.2.2.2.2.2.2.2.2.2.2.2.2.1 s.2.2.2.2.2.2.2.2.2.2.2.2.2.2.1 s.2.2.2.2.2.2.2.2.2.2.2.2.2.2.2) (fun k s => tj_DG s.2.2.2.2.2.2.2.1 ∧ (∀ j, j ≠ i → s.2.2.2.2.2.1 j = a9 j) ∧ ∀ r, r < 16 → (tj_b s.1 r = true ↔ (r < k ∧ tj_b (a9 i) r = true ∧ ∃ t, tj_ST m P Q c L (upd a9 i ((1 : Int32) <<< (nI r &&& 31))) t))) (c i) 0 (0, fo, an, oc, ac, a9, a10, a15, a18, a19, a20, a21, a22, a23, a24, a25) (by omega) ⟨hD, fun j _ => rfl, fun r _ => ?_⟩ ?_ ?_
  · dsimp only
    rw [tj_0]
    exact ⟨fun z => absurd z (by decide), fun z => absurd z.1 (Nat.not_lt_zero _)⟩
  · intro f s hs
    obtain ⟨u, fo', an', oc', ac', b9, b10, b15, b18, b19, b20, b21, b22, b23, b24, b25⟩ := s
    obtain ⟨g1, g2, g3⟩ := hs
    dsimp only at g1 g2 g3
    show wX_usefulRows_25 post (nI i) (a9 i) (f + 1) u (nI (c i)) lv qu ai st fo' an' bo tc oc' ac' a1 a2 a3 a4 a5 a6 a7 a8 b9 b10 a11 a12 a13 a14 b15 a16 a17 b18 b19 b20 b21 b22 b23 b24 b25
    refine ⟨v4, pk_le (c i) (c i) (fun _ => ⟨v4, nm_r (e' := a9) (by rw [c4]; exact tj_upd_same g2) ?_⟩) (fun z => absurd z (by omega)) e7⟩
    exact H u fo' an' oc' ac' b10 b15 b18 b19 b20 b21 b22 b23 b24 b25 g1 g3
  · intro f k s hk hs hw'
    obtain ⟨u, fo', an', oc', ac', b9, b10, b15, b18, b19, b20, b21, b22, b23, b24, b25⟩ := s
    obtain ⟨g1, g2, g3⟩ := hs
    dsimp only at g1 g2 g3
    show wX_usefulRows_25 post (nI i) (a9 i) (f + 1) u (nI k) lv qu ai st fo' an' bo tc oc' ac' a1 a2 a3 a4 a5 a6 a7 a8 b9 b10 a11 a12 a13 a14 b15 a16 a17 b18 b19 b20 b21 b22 b23 b24 b25
    refine ⟨v4, pk_le (c i) k (fun z => absurd z (by omega)) (fun _ => ek_if (tj_b0 (a9 i) (show k < 32 by omega)) (fun z => ?_) (fun z => ⟨v4, nm_r (e' := upd a9 i ((1 : Int32) <<< (nI k &&& 31))) (by rw [c4]; exact tj_upd_upd g2) ?_⟩)) e7⟩
    · refine nm_r (nI_1 k) (hw' (u, fo', an', oc', ac', b9, b10, b15, b18, b19, b20, b21, b22, b23, b24, b25) ⟨g1, g2, fun r hr => ?_⟩)
      dsimp only
      rw [g3 r hr]
      constructor
      · rintro ⟨h1, h2, h3⟩; exact ⟨by omega, h2, h3⟩
      · rintro ⟨h1, h2, h3⟩
        have : r ≠ k := fun e => by rw [e, z] at h2; exact absurd h2 (by decide)
        exact ⟨by omega, h2, h3⟩
    · have z' := tj_nf z
      refine tw_search (w := w) (P := P) (Q := Q) (c := c) (L := L) hlv hqu hq hw hai ⟨i, hi, hb⟩ hqa ht hL g1 (fun an' oc' ac' b10 b15 b18 b19 b20 b21 b22 b23 b24 b25 k1 k2 _ => ?_)
      rcases k2 with ⟨e, hno⟩ | ⟨e, hyes⟩
      · refine br_t e (nm_r (nI_1 k) (hw' (u, 1, an', oc', ac', _, b10, b15, b18, b19, b20, b21, b22, b23, b24, b25) ⟨k1, fun j hj => pk_un hj, fun r hr => ?_⟩))
        dsimp only
        rw [g3 r hr]
        constructor
        · rintro ⟨h1, h2, h3⟩; exact ⟨by omega, h2, h3⟩
        · rintro ⟨h1, h2, h3⟩
          have : r ≠ k := fun e => by rw [e] at h3; exact hno h3
          exact ⟨by omega, h2, h3⟩
      · refine br_f (by rw [e]; decide) (nm_e (nm_r (nI_1 k) (hw' (_, 1, an', oc', ac', _, b10, b15, b18, b19, b20, b21, b22, b23, b24, b25) ⟨k1, fun j hj => pk_un hj, fun r hr => ?_⟩)))
        dsimp only
        rw [tj_or, Bool.or_eq_true, g3 r hr, tj_shl1 k (by omega) r (by omega), decide_eq_true_iff]
        constructor
        · rintro (⟨h1, h2, h3⟩ | h)
          · exact ⟨by omega, h2, h3⟩
          · rw [h]; exact ⟨by omega, z', hyes⟩
        · rintro ⟨h1, h2, h3⟩
          by_cases e : r = k
          · exact Or.inr e
          · exact Or.inl ⟨by omega, h2, h3⟩
theorem tw_usefulRows {post : Int32 → St2 → Prop} {x : Int32} {q w m i th : Nat} {P Q c : Nat → Nat} {L : Nat → Nat → Nat} (hx : x = nI i) (hi : i < 4) (hlv : lv = 2) (hqu : qu = nI q) (hq : q < 2) (hw : a6 q = nI w) (hai : ai = nI m) (hqa : tj_QA a4 a5 q m P Q) (ht : tj_vs m (fun i => 2 ^ P i ||| 2 ^ Q i) 4 = th) (hL : ∀ i, i < 4 → m.testBit i = true → tj_LQ a7 a8 i (c i) (L i)) (hD : tj_DG a15)
    (H : ∀ u fo' an' oc' ac' b10 b15 b18 b19 b20 b21 b22 b23 b24 b25, tj_DG b15 → (m.testBit i = true → ∀ r, r < 16 → (tj_b u r = true ↔ (r < c i ∧ tj_b (a9 i) r = true ∧ ∃ t, tj_ST m P Q c L (upd a9 i ((1 : Int32) <<< (nI r &&& 31))) t))) → post u (lv, qu, ai, st, fo', an', bo, tc, oc', ac', a1, a2, a3, a4, a5, a6, a7, a8, a9, b10, a11, a12, a13, a14, b15, a16, a17, b18, b19, b20, b21, b22, b23, b24, b25)) : wpX_usefulRows post (lv, qu, ai, st, fo, an, bo, tc, oc, ac, a1, a2, a3, a4, a5, a6, a7, a8, a9, a10, a11, a12, a13, a14, a15, a16, a17, a18, a19, a20, a21, a22, a23, a24, a25) x := by
  subst hx
  refine ek_if (show (((ai >>> (nI i &&& 31)) &&& 1) = 0) ↔ m.testBit i = false by rw [hai, tj_b0 _ (show i < 32 by omega), tj_nI _ (by omega)]) (fun z => ?_) (fun z => ⟨vp_in_nI hi (by decide), nm_r (e' := a9 i) (by rw [nI_clamp (by omega)]) ?_⟩)
  · exact H 0 fo an oc ac a10 a15 a18 a19 a20 a21 a22 a23 a24 a25 hD (fun e => by rw [z] at e; exact absurd e (by decide))
  · exact tw_useful25 hi hlv hqu hq hw hai (tj_nf z) hqa ht hL hD (fun u fo' an' oc' ac' b10 b15 b18 b19 b20 b21 b22 b23 b24 b25 g1 g2 => H u _ _ _ _ _ _ _ _ _ _ _ _ _ _ g1 (fun _ => g2))
theorem tw_keepUseful {post : St2 → Prop} {q w m th : Nat} {P Q c : Nat → Nat} {L : Nat → Nat → Nat} (hlv : lv = 2) (hqu : qu = nI q) (hq : q < 2) (hw : a6 q = nI w) (hai : ai = nI m) (hqa : tj_QA a4 a5 q m P Q) (ht : tj_vs m (fun i => 2 ^ P i ||| 2 ^ Q i) 4 = th) (hL : ∀ i, i < 4 → m.testBit i = true → tj_LQ a7 a8 i (c i) (L i)) (hD : tj_DG a15)
    (H : ∀ b9 fo' an' oc' ac' b10 b15 b18 b19 b20 b21 b22 b23 b24 b25, tj_DG b15 → (∀ i, i < 4 → m.testBit i = true → ∀ r, r < 16 → (tj_b (b9 i) r = true ↔ (r < c i ∧ tj_b (a9 i) r = true ∧ ∃ t, tj_ST m P Q c L (upd a9 i ((1 : Int32) <<< (nI r &&& 31))) t))) → post (lv, qu, ai, st, fo', an', bo, tc, oc', ac', a1, a2, a3, a4, a5, a6, a7, a8, b9, b10, a11, a12, a13, a14, b15, a16, a17, b18, b19, b20, b21, b22, b23, b24, b25)) : wpX_keepUseful post (lv, qu, ai, st, fo, an, bo, tc, oc, ac, a1, a2, a3, a4, a5, a6, a7, a8, a9, a10, a11, a12, a13, a14, a15, a16, a17, a18, a19, a20, a21, a22, a23, a24, a25) := by
  unfold wpX_keepUseful
  refine tw_usefulRows (i := 0) rfl (by decide) hlv hqu hq hw hai hqa ht hL hD (fun u0 fo0 an0 oc0 ac0 c10 c15 c18 c19 c20 c21 c22 c23 c24 c25 d0 s0 => ?_)
  refine tw_usefulRows (i := 1) rfl (by decide) hlv hqu hq hw hai hqa ht hL d0 (fun u1 fo1 an1 oc1 ac1 e10 e15 e18 e19 e20 e21 e22 e23 e24 e25 d1 s1 => ?_)
  refine tw_usefulRows (i := 2) rfl (by decide) hlv hqu hq hw hai hqa ht hL d1 (fun u2 fo2 an2 oc2 ac2 g10 g15 g18 g19 g20 g21 g22 g23 g24 g25 d2 s2 => ?_)
  refine tw_usefulRows (i := 3) rfl (by decide) hlv hqu hq hw hai hqa ht hL d2 (fun u3 fo' an' oc' ac' b10 b15 b18 b19 b20 b21 b22 b23 b24 b25 d3 s3 => ?_)
  refine nm_e (nm_e (nm_e (nm_e (H _ _ _ _ _ _ _ _ _ _ _ _ _ _ _ d3 (fun i hi hb => ?_)))))
  rcases (show i = 0 ∨ i = 1 ∨ i = 2 ∨ i = 3 by omega) with e | e | e | e
  · subst e
    rw [pk_un (by decide), pk_un (by decide), pk_un (by decide), pk_us]
    exact s0 hb
  · subst e
    rw [pk_un (by decide), pk_un (by decide), pk_us]
    exact s1 hb
  · subst e
    rw [pk_un (by decide), pk_us]
    exact s2 hb
  · subst e
    rw [pk_us]
    exact s3 hb
/-! ===== the rows that no choice uses ===== -/
theorem tw_idle100 {post : Int32 → St2 → Prop} {J : Int32 → Int32 → Int32 → Int32 → Int32 → Int32 → Int32 → Int32 → Int32 → Int32 → Int32 → (Nat → Int64) → (Nat → Int32) → (Nat → Int32) → (Nat → Int32) → (Nat → Int32) → (Nat → Int32) → (Nat → Int32) → (Nat → Int32) → (Nat → Int32) → (Nat → Int64) → (Nat → Int64) → (Nat → Int64) → (Nat → Int32) → (Nat → Int32) → (Nat → Int32) → (Nat → Int32) → (Nat → Int32) → (Nat → Int32) → (Nat → Int32) → (Nat → Int32) → (Nat → Int32) → (Nat → Int32) → (Nat → Int32) → (Nat → Int32) → (Nat → Int32) → Prop} {q i c p v : Nat} {L : Nat → Nat} (hi : i < 4) (hq : q < 2) (hat : tj_AT a4 a5 (4 * q + i) p v) (hL : tj_LQ a7 a8 i c L)
    (H : ∀ b1, (∀ k, k ≠ 6 → b1 k = a1 k) → (∀ row, tj_h (b1 6) row = true ↔ (tj_h (a1 6) row = true ∨ ∃ r, r < c ∧ tj_b (a9 i) r = true ∧ L r = row)) → J (nI (i + 1)) lv qu ai st fo an bo tc oc ac b1 a2 a3 a4 a5 a6 a7 a8 a9 a10 a11 a12 a13 a14 a15 a16 a17 a18 a19 a20 a21 a22 a23 a24 a25) : ∃ f, wX_idle_100 post J (nI q) (nI i) f 0 lv qu ai st fo an bo tc oc ac a1 a2 a3 a4 a5 a6 a7 a8 a9 a10 a11 a12 a13 a14 a15 a16 a17 a18 a19 a20 a21 a22 a23 a24 a25 := by
  obtain ⟨h7, hc, h8⟩ := hL
  have c4 : (nI i).toNatClampNeg = i := nI_clamp (by omega)
  have v4 : vp_in (nI i) 4 := vp_in_nI hi (by decide)
  have e7 : a7 (nI i).toNatClampNeg = nI c := by rw [c4]; exact h7
  have e4 : a4 ((4 : Int32) * nI q + nI i).toNatClampNeg = 0 := by
    rw [pk_cl (4 * q + i) (show (4 : Int32) * nI q + nI i = _ from tj_ix 4 q i) (by omega)]
    exact hat.1
  refine pk_loop (fun f k s => wX_idle_100 post J (nI q) (nI i) f (nI k) lv qu ai st fo an bo tc oc ac s a2 a3 a4 a5 a6 a7 a8 a9 a10 a11 a12 a13 a14 a15 a16 a17 a18 a19 a20 a21 a22 a23 a24 a25) (fun k s => (∀ x, x ≠ 6 → s x = a1 x) ∧ (∀ row, tj_h (s 6) row = true ↔ (tj_h (a1 6) row = true ∨ ∃ r, r < k ∧ tj_b (a9 i) r = true ∧ L r = row))) c 0 a1 (by omega) ⟨fun x _ => rfl, fun row => ⟨fun h => Or.inl h, ?_⟩⟩ ?_ ?_
  · rintro (h | ⟨r, hr, _⟩)
    · exact h
    · exact absurd hr (Nat.not_lt_zero _)
  · intro f s hs
    exact ⟨v4, pk_le c c (fun _ => nm_r (nI_1 i) (H s hs.1 hs.2)) (fun z => absurd z (by omega)) e7⟩
  · intro f k s hk hs hw
    obtain ⟨g1, g2⟩ := hs
    obtain ⟨l1, l2⟩ := h8 k hk
    have cond : (((a9 (nI i).toNatClampNeg >>> (nI k &&& 31)) &&& 1) = 0) ↔ tj_b (a9 i) k = false := by rw [c4]; exact tj_b0 _ (by omega)
    have e8 : a8 ((16 : Int32) * nI i + nI k).toNatClampNeg = nI (L k) := by rw [pk_cl (16 * i + k) (show (16 : Int32) * nI i + nI k = _ from tj_ix 16 i k) (by omega)]; exact l2
    refine ⟨v4, pk_le c k (fun z => absurd z (by omega)) (fun _ => ⟨v4, ek_if cond (fun z => ?_) (fun z => ?_)⟩) e7⟩
    · refine nm_r (nI_1 k) (hw s ⟨g1, fun row => ?_⟩)
      rw [g2 row]
      constructor
      · rintro (h | ⟨r, h1, h2⟩)
        · exact Or.inl h
        · exact Or.inr ⟨r, by omega, h2⟩
      · rintro (h | ⟨r, h1, h2, h3⟩)
        · exact Or.inl h
        · have : r ≠ k := fun e => by rw [e, z] at h2; exact absurd h2 (by decide)
          exact Or.inr ⟨r, by omega, h2, h3⟩
    · refine ⟨pk_in (4 * q + i) 8 (by omega) (tj_ix 4 q i), pk_in (16 * i + k) 64 (by omega) (tj_ix 16 i k), ?_⟩
      refine tw_setRow (f := 6) rfl e4 e8 (by decide) l1 (nm_r (nI_1 k) (hw _ ⟨fun x hx => ?_, fun row => ?_⟩))
      · rw [pk_uLn hx]; exact g1 x hx
      · rw [pk_uLs, tj_hor _ (by omega), Bool.or_eq_true, decide_eq_true_iff, g2 row]
        constructor
        · rintro ((h | ⟨r, h1, h2⟩) | h)
          · exact Or.inl h
          · exact Or.inr ⟨r, by omega, h2⟩
          · exact Or.inr ⟨k, by omega, tj_nf z, h.symm⟩
        · rintro (h | ⟨r, h1, h2, h3⟩)
          · exact Or.inl (Or.inl h)
          · by_cases e : r = k
            · rw [e] at h3; exact Or.inr h3.symm
            · exact Or.inl (Or.inr ⟨r, by omega, h2, h3⟩)
/-- what is counted of relation r -/
def tj_ig (a1 : Nat → Int64) (r row : Nat) : Bool := decide (row < (if r = 2 then 125 else 25)) && (tj_h (a1 (0 + 2 * r + row / 64)) (row % 64) && !tj_h (a1 (6 + 2 * r + row / 64)) (row % 64))
theorem tw_idle179 {post : Int32 → St2 → Prop} {J : Int32 → Int32 → Prop} {r c : Nat} (hr : r < 3) (H : J (nI (c + tj_cnt (tj_ig a1 r) 125)) (nI (r + 1))) : ∃ f, wX_idle_179 post J (nI r) lv qu ai st fo an bo tc oc ac a1 a2 a3 a4 a5 a6 a7 a8 a9 a10 a11 a12 a13 a14 a15 a16 a17 a18 a19 a20 a21 a22 a23 a24 a25 f (nI c) 0 := by
  refine pk_loop (σ := Unit) (fun f k _ => wX_idle_179 post J (nI r) lv qu ai st fo an bo tc oc ac a1 a2 a3 a4 a5 a6 a7 a8 a9 a10 a11 a12 a13 a14 a15 a16 a17 a18 a19 a20 a21 a22 a23 a24 a25 f (nI (c + tj_cnt (tj_ig a1 r) k)) (nI k)) (fun _ _ => True) 125 0 () (by omega) trivial ?_ ?_
  · intro f _ _
    exact br_t (by decide) (nm_r (nI_1 r) H)
  · intro f k _ hk _ hw
    have t := hw () trivial
    try dsimp only at t
    refine br_f (nI_ge (b := 125) hk (by decide)) ?_
    refine tw_isRow rfl rfl hr (by omega) (fun z => br_f (by decide) ?_) (fun z => br_t rfl (nm_r (nI_1 k) ?_))
    · refine tw_hasRow (f := 0) rfl rfl rfl (by omega) (by omega) (fun z1 => br_t rfl (nm_r (nI_1 k) ?_)) (fun z1 => br_f (by decide) ?_)
      · rw [tj_cnt_f (by unfold tj_ig; rw [z1, Bool.false_and, Bool.and_false])] at t
        exact t
      · refine tw_hasRow (f := 6) rfl rfl rfl (by omega) (by omega) (fun z2 => br_t rfl (nm_r (nI_1 _) (nm_r (nI_1 k) ?_))) (fun z2 => br_f (by decide) (nm_r (nI_1 k) ?_))
        · rw [tj_cnt_t (by unfold tj_ig; rw [z1, z2, decide_eq_true z]; rfl)] at t
          exact t
        · rw [tj_cnt_f (by unfold tj_ig; rw [z1, z2]; simp)] at t
          exact t
    · rw [tj_cnt_f (by unfold tj_ig; rw [decide_eq_false z, Bool.false_and])] at t
      exact t
theorem tw_idle170 {post : Int32 → St2 → Prop} (H : post (nI (tj_cnt (tj_ig a1 0) 125 + tj_cnt (tj_ig a1 1) 125 + tj_cnt (tj_ig a1 2) 125)) (lv, qu, ai, st, fo, an, bo, tc, oc, ac, a1, a2, a3, a4, a5, a6, a7, a8, a9, a10, a11, a12, a13, a14, a15, a16, a17, a18, a19, a20, a21, a22, a23, a24, a25)) : ∃ f, wX_idle_170 post lv qu ai st fo an bo tc oc ac a1 a2 a3 a4 a5 a6 a7 a8 a9 a10 a11 a12 a13 a14 a15 a16 a17 a18 a19 a20 a21 a22 a23 a24 a25 f 0 0 := by
  refine ⟨4, br_f (by decide) (tw_idle179 (r := 0) (c := 0) (by decide) (br_f (by decide) (tw_idle179 (r := 1) (by decide) (br_f (by decide) (tw_idle179 (r := 2) (by decide) (br_t (by decide) ?_))))))⟩
  rw [Nat.zero_add]
  exact H
theorem tj_ig_cnt {b1 : Nat → Int64} {R : Nat → Bool} (h0 : ∀ row, row < 25 → tj_h (b1 0) row = R row) (h1 : ∀ k, 1 ≤ k → k < 6 → b1 k = 0) : tj_cnt (tj_ig b1 0) 125 + tj_cnt (tj_ig b1 1) 125 + tj_cnt (tj_ig b1 2) 125 = tj_cnt (fun row => R row && !tj_h (b1 6) row) 25 := by
  have e1 : tj_cnt (tj_ig b1 1) 125 = 0 := by
    refine tj_cnt_zero (fun j hj => ?_)
    unfold tj_ig
    rw [h1 (0 + 2 * 1 + j / 64) (by omega) (by omega), tj_h_0, Bool.false_and, Bool.and_false]
  have e2 : tj_cnt (tj_ig b1 2) 125 = 0 := by
    refine tj_cnt_zero (fun j hj => ?_)
    unfold tj_ig
    rw [h1 (0 + 2 * 2 + j / 64) (by omega) (by omega), tj_h_0, Bool.false_and, Bool.and_false]
  rw [e1, e2, Nat.add_zero, tj_cnt_tail (show 25 ≤ 125 by decide) (fun j hj1 hj2 => by unfold tj_ig; rw [decide_eq_false (by rw [if_neg (by decide)]; omega), Bool.false_and])]
  refine tj_cnt_congr (fun j hj => ?_)
  unfold tj_ig
  rw [decide_eq_true (by rw [if_neg (by decide)]; exact hj), Bool.true_and, show 0 + 2 * 0 + j / 64 = 0 by omega, show 6 + 2 * 0 + j / 64 = 6 by omega, show j % 64 = j by omega, h0 j hj]
theorem tj_ones (n : Nat) (hn : n < 5) {i : Nat} (hi : i < 4) : (2 ^ n - 1).testBit i = true ↔ i < n := by
  rw [Nat.testBit_two_pow_sub_one, decide_eq_true_iff]
theorem tw_idle87 {post : Int32 → St2 → Prop} {q n : Nat} {P Q c : Nat → Nat} {L : Nat → Nat → Nat} (hq : q < 2) (hn : n < 5) (h3 : a3 q = nI n) (hqa : tj_QA a4 a5 q (2 ^ n - 1) P Q) (hL : ∀ i, i < 4 → (2 ^ n - 1).testBit i = true → tj_LQ a7 a8 i (c i) (L i)) (h6 : a1 6 = 0)
    (H : ∀ b1, (∀ k, k ≠ 6 → b1 k = a1 k) → (∀ row, tj_h (b1 6) row = true ↔ ∃ i, i < n ∧ ∃ r, r < c i ∧ tj_b (a9 i) r = true ∧ L i r = row) → post (nI (tj_cnt (tj_ig b1 0) 125 + tj_cnt (tj_ig b1 1) 125 + tj_cnt (tj_ig b1 2) 125)) (lv, qu, ai, st, fo, an, bo, tc, oc, ac, b1, a2, a3, a4, a5, a6, a7, a8, a9, a10, a11, a12, a13, a14, a15, a16, a17, a18, a19, a20, a21, a22, a23, a24, a25)) : ∃ f, wX_idle_87 post (nI q) f 0 lv qu ai st fo an bo tc oc ac a1 a2 a3 a4 a5 a6 a7 a8 a9 a10 a11 a12 a13 a14 a15 a16 a17 a18 a19 a20 a21 a22 a23 a24 a25 := by
  have e3 : a3 (nI q).toNatClampNeg = nI n := by rw [nI_clamp (by omega)]; exact h3
  have v2 : vp_in (nI q) 2 := vp_in_nI hq (by decide)
  refine pk_loop (fun f i s => wX_idle_87 post (nI q) f (nI i) lv qu ai st fo an bo tc oc ac s a2 a3 a4 a5 a6 a7 a8 a9 a10 a11 a12 a13 a14 a15 a16 a17 a18 a19 a20 a21 a22 a23 a24 a25) (fun i s => (∀ k, k ≠ 6 → s k = a1 k) ∧ (∀ row, tj_h (s 6) row = true ↔ ∃ j, j < i ∧ ∃ r, r < c j ∧ tj_b (a9 j) r = true ∧ L j r = row)) n 0 a1 (by omega) ⟨fun k _ => rfl, fun row => ?_⟩ ?_ ?_
  · rw [h6, tj_h_0]
    constructor
    · intro z; exact absurd z (by decide)
    · rintro ⟨j, hj, _⟩; exact absurd hj (Nat.not_lt_zero _)
  · intro f s hs
    exact ⟨v2, pk_le n n (fun _ => tw_idle170 (H s hs.1 hs.2)) (fun z => absurd z (by omega)) e3⟩
  · intro f i s hi hs hw
    obtain ⟨g1, g2⟩ := hs
    have hb : (2 ^ n - 1).testBit i = true := (tj_ones n hn (by omega)).mpr hi
    refine ⟨v2, pk_le n i (fun z => absurd z (by omega)) (fun _ => ?_) e3⟩
    refine tw_idle100 (by omega) hq (hqa i (by omega) hb) (hL i (by omega) hb) (fun b1 k1 k2 => hw b1 ⟨fun k hk => by rw [k1 k hk, g1 k hk], fun row => ?_⟩)
    rw [k2 row, g2 row]
    constructor
    · rintro (⟨j, h1, h2⟩ | h)
      · exact ⟨j, by omega, h2⟩
      · exact ⟨i, by omega, h⟩
    · rintro ⟨j, h1, h2⟩
      by_cases e : j = i
      · rw [e] at h2; exact Or.inr h2
      · exact Or.inl ⟨j, by omega, h2⟩
theorem tw_idle66 {post : Int32 → St2 → Prop} {q : Nat} (H : ∀ b1, (∀ k, k < 6 → b1 k = a1 k) → (∀ k, 6 ≤ k → k < 12 → b1 k = 0) → ∃ f, wX_idle_87 post (nI q) f 0 lv qu ai st fo an bo tc oc ac b1 a2 a3 a4 a5 a6 a7 a8 a9 a10 a11 a12 a13 a14 a15 a16 a17 a18 a19 a20 a21 a22 a23 a24 a25) : ∃ f, wX_idle_66 post (nI q) lv qu ai st fo an bo tc oc ac f 6 a1 a2 a3 a4 a5 a6 a7 a8 a9 a10 a11 a12 a13 a14 a15 a16 a17 a18 a19 a20 a21 a22 a23 a24 a25 := by
  refine pk_loop (fun f k s => wX_idle_66 post (nI q) lv qu ai st fo an bo tc oc ac f (nI k) s a2 a3 a4 a5 a6 a7 a8 a9 a10 a11 a12 a13 a14 a15 a16 a17 a18 a19 a20 a21 a22 a23 a24 a25) (fun i s => 6 ≤ i ∧ (∀ k, k < 6 → s k = a1 k) ∧ (∀ k, 6 ≤ k → k < i → s k = 0)) 12 6 a1 (by omega) ⟨Nat.le_refl _, fun k _ => rfl, fun k h1 h2 => absurd h1 (by omega)⟩ ?_ ?_
  · intro f s hs
    exact br_t (by decide) (H s hs.2.1 hs.2.2)
  · intro f k s hk hs hw
    refine br_f (nI_ge (b := 12) hk (by decide)) ⟨vp_in_nI hk (by decide), nm_r (e' := vp_updL s k 0) (by rw [nI_clamp (by omega)]) (nm_r (nI_1 k) ?_)⟩
    refine hw _ ⟨by omega, fun j hj => ?_, fun j h1 h2 => ?_⟩
    · rw [pk_uLn (by omega)]; exact hs.2.1 j hj
    · by_cases e : j = k
      · rw [e, pk_uLs]
      · rw [pk_uLn e]; exact hs.2.2 j h1 (by omega)
theorem tw_idle {post : Int32 → St2 → Prop} {x : Int32} {q n w th : Nat} {P Q : Nat → Nat} {R : Nat → Bool} (hx : x = nI q) (hlv : lv = 2) (hQ : tj_QQ a3 a4 a5 a6 q n w th P Q) (hR : ∀ row, row < 25 → tj_h (a1 0) row = R row) (hz : ∀ k, 1 ≤ k → k < 6 → a1 k = 0) (hc : tj_cnt R 25 ≤ 16) (hD : tj_DG a15)
    (H : ∀ F : Nat → Bool, (∀ row, row < 25 → R row = true → (F row = true ↔ ∃ i, i < n ∧ ∃ t, tj_RT (2 ^ n - 1) P Q R t ∧ 5 * t (P i) + t (Q i) = row)) → ∀ qu' ai' st' fo' an' oc' ac' b1 b7 b8 b9 b10 b15 b18 b19 b20 b21 b22 b23 b24 b25, (∀ k, k < 6 → b1 k = a1 k) → tj_DG b15 → post (nI (tj_cnt (fun row => R row && !F row) 25)) (lv, qu', ai', st', fo', an', bo, tc, oc', ac', b1, a2, a3, a4, a5, a6, b7, b8, b9, b10, a11, a12, a13, a14, b15, a16, a17, b18, b19, b20, b21, b22, b23, b24, b25)) : wpX_idle post (lv, qu, ai, st, fo, an, bo, tc, oc, ac, a1, a2, a3, a4, a5, a6, a7, a8, a9, a10, a11, a12, a13, a14, a15, a16, a17, a18, a19, a20, a21, a22, a23, a24, a25) x := by
  subst hx
  obtain ⟨q1, q2, q3, q4, q5, q6, q7⟩ := hQ
  have e3 : a3 (nI q).toNatClampNeg = nI n := by rw [nI_clamp (by omega)]; exact q4
  unfold wpX_idle
  refine tw_isQ rfl q1 (br_f (by decide) ⟨vp_in_nI q1 (by decide), pk_eq n 0 (fun e => absurd e (by omega)) (fun _ => ?_) e3⟩)
  refine tw_allAtoms rfl q1 q4 q3 ?_
  refine tw_start (f := 0) rfl rfl rfl q1 (by decide) hR hc q5 (fun b7 b8 b9 hLS => br_f (by rw [hlv]; decide) ?_)
  unfold wX_idle_59
  have hLQ : ∀ i, i < 4 → (2 ^ n - 1).testBit i = true → tj_LQ b7 b8 i (tj_cnt R 25) (tj_nth R 25) := fun i hi hb => tj_LS_LQ (hLS i hi hb) hc
  refine tw_keepUseful (c := fun _ => tj_cnt R 25) (L := fun _ => tj_nth R 25) hlv rfl q1 q6 rfl q5 q7 hLQ hD (fun c9 fo' an' oc' ac' b10 b15 b18 b19 b20 b21 b22 b23 b24 b25 g1 g2 => ?_)
  refine tw_idle66 (fun b1 k1 k2 => ?_)
  refine tw_idle87 (c := fun _ => tj_cnt R 25) (L := fun _ => tj_nth R 25) q1 q3 q4 q5 hLQ (k2 6 (by decide) (by decide)) (fun c1 m1 m2 => ?_)
  rw [tj_ig_cnt (R := R) (fun row hr => by rw [m1 0 (by decide), k1 0 (by decide)]; exact hR row hr) (fun k h1 h2 => by rw [m1 k (by omega), k1 k h2]; exact hz k h1 h2)]
  refine H (tj_h (c1 6)) (fun row hr hRr => ?_) _ _ _ _ _ _ _ c1 _ _ _ _ _ _ _ _ _ _ _ _ _ (fun k hk => by rw [m1 k (by omega), k1 k hk]) g1
  rw [m2 row]
  have hst : ∀ i, i < n → ∀ r, r < tj_cnt R 25 → ∀ t, (tj_ST (2 ^ n - 1) P Q (fun _ => tj_cnt R 25) (fun _ => tj_nth R 25) (upd b9 i ((1 : Int32) <<< (nI r &&& 31))) t ↔ (tj_RT (2 ^ n - 1) P Q R t ∧ 5 * t (P i) + t (Q i) = tj_nth R 25 r)) := by
    intro i hi r hr t
    have hRT := tj_ST_RT (m := 2 ^ n - 1) (P := P) (Q := Q) (fun i hi hb => ⟨(q5 i hi hb).2.2.2.2.1, (q5 i hi hb).2.2.2.2.2.1⟩) hc hLS
    rw [← hRT]
    have hbi : (2 ^ n - 1).testBit i = true := (tj_ones n q3 (by omega)).mpr hi
    constructor
    · rintro ⟨h1, h2⟩
      have own : 5 * t (P i) + t (Q i) = tj_nth R 25 r := by
        obtain ⟨r', g1, g2, g3⟩ := h2 i (by omega) hbi
        rw [pk_us, tj_shl1 r (by omega) r' (by dsimp only at g1; omega), decide_eq_true_iff] at g2
        rw [← g3, g2]
      refine ⟨⟨h1, fun j hj hb => ?_⟩, own⟩
      by_cases e : j = i
      · subst e
        refine ⟨r, hr, ?_, own.symm⟩
        rw [(hLS j hj hb).2.2 r (by omega)]
        exact decide_eq_true hr
      · obtain ⟨r', g1, g2, g3⟩ := h2 j hj hb
        rw [pk_un e] at g2
        exact ⟨r', g1, g2, g3⟩
    · rintro ⟨⟨h1, h2⟩, own⟩
      refine ⟨h1, fun j hj hb => ?_⟩
      by_cases e : j = i
      · subst e
        refine ⟨r, hr, ?_, own.symm⟩
        rw [pk_us, tj_shl1 r (by omega) r (by omega)]
        exact decide_eq_true rfl
      · obtain ⟨r', g1, g2, g3⟩ := h2 j hj hb
        refine ⟨r', g1, ?_, g3⟩
        rw [pk_un e]; exact g2
  constructor
  · rintro ⟨i, hi, r, h1, h2, h3⟩
    have hbi : (2 ^ n - 1).testBit i = true := (tj_ones n q3 (by omega)).mpr hi
    obtain ⟨_, _, t, ht⟩ := (g2 i (by omega) hbi r (by omega)).mp h2
    obtain ⟨p1, p2⟩ := (hst i hi r h1 t).mp ht
    exact ⟨i, hi, t, p1, by rw [p2]; exact h3⟩
  · rintro ⟨i, hi, t, h1, h2⟩
    have hbi : (2 ^ n - 1).testBit i = true := (tj_ones n q3 (by omega)).mpr hi
    have hl : tj_cnt R row < tj_cnt R 25 := tj_cnt_lt hr hRr
    obtain ⟨s1, s2, s3⟩ := tj_nth_spec R 25 _ hl
    have e : tj_nth R 25 (tj_cnt R row) = row := tj_cnt_inj s2 hRr s3
    refine ⟨i, hi, tj_cnt R row, hl, (g2 i (by omega) hbi _ (by omega)).mpr ⟨hl, ?_, t, (hst i hi _ hl t).mpr ⟨h1, by rw [e]; exact h2⟩⟩, e⟩
    rw [(hLS i (by omega) hbi).2.2 _ (by omega)]
    exact decide_eq_true hl
end
end
section
section
variable {lv qu ai st fo an bo tc oc ac : Int32} {a1 : Nat → Int64} {a2 : Nat → Int32} {a3 : Nat → Int32} {a4 : Nat → Int32} {a5 : Nat → Int32} {a6 : Nat → Int32} {a7 : Nat → Int32} {a8 : Nat → Int32} {a9 : Nat → Int32} {a10 : Nat → Int64} {a11 : Nat → Int64} {a12 : Nat → Int64} {a13 : Nat → Int32} {a14 : Nat → Int32} {a15 : Nat → Int32} {a16 : Nat → Int32} {a17 : Nat → Int32} {a18 : Nat → Int32} {a19 : Nat → Int32} {a20 : Nat → Int32} {a21 : Nat → Int32} {a22 : Nat → Int32} {a23 : Nat → Int32} {a24 : Nat → Int32} {a25 : Nat → Int32}
theorem tw_freeze53 {post : St2 → Prop} {J : Int32 → Int32 → Int32 → Int32 → Int32 → Int32 → Int32 → Int32 → Int32 → Int32 → Int32 → (Nat → Int64) → (Nat → Int32) → (Nat → Int32) → (Nat → Int32) → (Nat → Int32) → (Nat → Int32) → (Nat → Int32) → (Nat → Int32) → (Nat → Int32) → (Nat → Int64) → (Nat → Int64) → (Nat → Int64) → (Nat → Int32) → (Nat → Int32) → (Nat → Int32) → (Nat → Int32) → (Nat → Int32) → (Nat → Int32) → (Nat → Int32) → (Nat → Int32) → (Nat → Int32) → (Nat → Int32) → (Nat → Int32) → (Nat → Int32) → (Nat → Int32) → Prop} {x1 x2 : Int32} {i k p v : Nat} (hk : k < 8) (hat : tj_AT a4 a5 k p v)
    (H : J (nI (i + 1)) lv qu ai st fo an bo tc oc ac (vp_updL a1 6 (a1 6 ||| ((1 : Int64) <<< ((nI (5 * p + v)).toInt64 &&& 63)))) a2 a3 a4 a5 a6 a7 a8 a9 a10 a11 a12 a13 a14 a15 a16 a17 a18 a19 a20 a21 a22 a23 a24 a25) : ∃ f, wX_freeze_53 post J x1 x2 (nI i) (nI k) lv qu ai st fo an bo tc oc ac a1 a2 a3 a4 a5 a6 a7 a8 a9 a10 a11 a12 a13 a14 a15 a16 a17 a18 a19 a20 a21 a22 a23 a24 a25 f 0 0 := by
  obtain ⟨h4, h0, h1, h2, hp, hq, hne⟩ := hat
  have v8 : vp_in (nI k) 8 := vp_in_nI hk (by decide)
  have e4 : a4 (nI k).toNatClampNeg = 0 := by rw [nI_clamp (by omega)]; exact h4
  have e0 : a5 ((3 : Int32) * nI k + nI 0).toNatClampNeg = nI p := by rw [tw_c3 k 0 hk (by decide)]; exact h0
  have e1 : a5 ((3 : Int32) * nI k + nI 1).toNatClampNeg = nI v := by rw [tw_c3 k 1 hk (by decide)]; exact h1
  have i0 : ∀ c, c < 3 → vp_in ((3 : Int32) * nI k + nI c) 24 := fun c hc => pk_in (3 * k + c) 24 (by omega) (tj_ix 3 k c)
  refine ⟨3, v8, tw_columnsOf e4 (br_f (by decide) ⟨i0 0 (by decide), nm_r (e' := nI p) ?_ (nm_r (show (0 : Int32) + 1 = nI 1 by decide) ?_)⟩)⟩
  · show (5 : Int32) * nI 0 + a5 ((3 : Int32) * nI k + nI 0).toNatClampNeg = nI p
    rw [e0]
    exact (tj_ix 5 0 p).trans (by rw [Nat.mul_zero, Nat.zero_add])
  · refine ⟨v8, tw_columnsOf e4 (br_f (by decide) ⟨i0 1 (by decide), nm_r (e' := nI (5 * p + v)) ?_ (nm_r (show nI 1 + 1 = nI 2 by decide) ?_)⟩)⟩
    · rw [e1]
      exact tj_ix 5 p v
    · refine ⟨v8, tw_columnsOf e4 (br_t (by decide) ⟨v8, tw_setRow (f := 6) rfl e4 rfl (by decide) (by omega) (nm_r (nI_1 i) H)⟩)⟩
theorem tw_freeze {post : St2 → Prop} {x y : Int32} {q m : Nat} {P Q : Nat → Nat} (hx : x = nI q) (hy : y = nI m) (hq : q < 2) (hqa : tj_QA a4 a5 q m P Q)
    (H : ∀ b1, (∀ k, k < 6 → b1 k = a1 k) → (∀ row, tj_h (b1 6) row = true ↔ ∃ i, i < 4 ∧ m.testBit i = true ∧ 5 * P i + Q i = row) → post (lv, qu, ai, st, fo, an, bo, tc, oc, ac, b1, a2, a3, a4, a5, a6, a7, a8, a9, a10, a11, a12, a13, a14, a15, a16, a17, a18, a19, a20, a21, a22, a23, a24, a25)) : wpX_freeze post (lv, qu, ai, st, fo, an, bo, tc, oc, ac, a1, a2, a3, a4, a5, a6, a7, a8, a9, a10, a11, a12, a13, a14, a15, a16, a17, a18, a19, a20, a21, a22, a23, a24, a25) x y := by
  subst hx hy
  have second : ∀ c1 : Nat → Int64, (∀ k, k < 6 → c1 k = a1 k) → c1 6 = 0 → ∃ f, wX_freeze_24 post (nI q) (nI m) f 0 lv qu ai st fo an bo tc oc ac c1 a2 a3 a4 a5 a6 a7 a8 a9 a10 a11 a12 a13 a14 a15 a16 a17 a18 a19 a20 a21 a22 a23 a24 a25 := by
    intro c1 h1 h2
    refine pk_loop (fun f i s => wX_freeze_24 post (nI q) (nI m) f (nI i) lv qu ai st fo an bo tc oc ac s a2 a3 a4 a5 a6 a7 a8 a9 a10 a11 a12 a13 a14 a15 a16 a17 a18 a19 a20 a21 a22 a23 a24 a25) (fun i s => (∀ k, k < 6 → s k = a1 k) ∧ (∀ row, tj_h (s 6) row = true ↔ ∃ j, j < i ∧ m.testBit j = true ∧ 5 * P j + Q j = row)) 4 0 c1 (by omega) ⟨h1, fun row => ?_⟩ ?_ ?_
    · rw [h2, tj_h_0]
      constructor
      · intro z; exact absurd z (by decide)
      · rintro ⟨j, hj, _⟩; exact absurd hj (Nat.not_lt_zero _)
    · intro f s hs
      exact br_t (by decide) (H s hs.1 hs.2)
    · intro f i s hi hs hw
      obtain ⟨g1, g2⟩ := hs
      refine br_f (nI_ge (b := 4) hi (by decide)) (ek_if (show (((nI m >>> (nI i &&& 31)) &&& 1) = 0) ↔ m.testBit i = false by rw [tj_b0 _ (show i < 32 by omega), tj_nI _ (by omega)]) (fun z => nm_r (nI_1 i) (hw s ⟨g1, fun row => ?_⟩)) (fun z => nm_r (e' := nI (4 * q + i)) (tj_ix 4 q i) ?_))
      · rw [g2 row]
        constructor
        · rintro ⟨j, a, b⟩; exact ⟨j, by omega, b⟩
        · rintro ⟨j, a, b, c⟩
          have : j ≠ i := fun e => by rw [e, z] at b; exact absurd b (by decide)
          exact ⟨j, by omega, b, c⟩
      · have hb := tj_nf z
        have hat := hqa i hi hb
        have hp := hat.2.2.2.2.1
        have hv := hat.2.2.2.2.2.1
        refine tw_freeze53 (k := 4 * q + i) (by omega) hat (hw _ ⟨fun k hk => ?_, fun row => ?_⟩)
        · rw [pk_uLn (by omega)]; exact g1 k hk
        · rw [pk_uLs, tj_hor _ (by omega), Bool.or_eq_true, decide_eq_true_iff, g2 row]
          constructor
          · rintro (⟨j, a, b⟩ | h)
            · exact ⟨j, by omega, b⟩
            · exact ⟨i, by omega, hb, h.symm⟩
          · rintro ⟨j, a, b, c⟩
            by_cases e : j = i
            · rw [e] at c; exact Or.inr c.symm
            · exact Or.inl ⟨j, by omega, b, c⟩
  refine pk_loop (fun f k s => wX_freeze_3 post (nI q) (nI m) lv qu ai st fo an bo tc oc ac f (nI k) s a2 a3 a4 a5 a6 a7 a8 a9 a10 a11 a12 a13 a14 a15 a16 a17 a18 a19 a20 a21 a22 a23 a24 a25) (fun i s => 6 ≤ i ∧ (∀ k, k < 6 → s k = a1 k) ∧ (∀ k, 6 ≤ k → k < i → s k = 0)) 12 6 a1 (by omega) ⟨Nat.le_refl _, fun k _ => rfl, fun k h1 h2 => absurd h1 (by omega)⟩ ?_ ?_
  · intro f s hs
    exact br_t (by decide) (second s hs.2.1 (hs.2.2 6 (by decide) (by decide)))
  · intro f k s hk hs hw
    refine br_f (nI_ge (b := 12) hk (by decide)) ⟨vp_in_nI hk (by decide), nm_r (e' := vp_updL s k 0) (by rw [nI_clamp (by omega)]) (nm_r (nI_1 k) ?_)⟩
    refine hw _ ⟨by omega, fun j hj => ?_, fun j h1 h2 => ?_⟩
    · rw [pk_uLn (by omega)]; exact hs.2.1 j hj
    · by_cases e : j = k
      · rw [e, pk_uLs]
      · rw [pk_uLn e]; exact hs.2.2 j h1 (by omega)
/-- the frozen rows -/
def tj_fz (m : Nat) (P Q : Nat → Nat) (row : Nat) : Bool := (List.range 4).any (fun i => m.testBit i && decide (5 * P i + Q i = row))
theorem tj_fz_iff (m : Nat) (P Q : Nat → Nat) (row : Nat) : tj_fz m P Q row = true ↔ ∃ i, i < 4 ∧ m.testBit i = true ∧ 5 * P i + Q i = row := by
  unfold tj_fz
  rw [List.any_eq_true]
  constructor
  · rintro ⟨i, h1, h2⟩
    rw [Bool.and_eq_true, decide_eq_true_iff] at h2
    exact ⟨i, List.mem_range.mp h1, h2⟩
  · rintro ⟨i, h1, h2, h3⟩
    exact ⟨i, List.mem_range.mpr h1, by rw [Bool.and_eq_true, decide_eq_true_iff]; exact ⟨h2, h3⟩⟩
theorem tw_itself14 {post : Int32 → St2 → Prop} {q w : Nat} (hq : q < 2) (hw : a6 q = nI w) (H0 : tj_in a10 (tj_code w (fun v => v) 5) = false → post 0 (lv, qu, ai, st, fo, an, bo, tc, oc, ac, a1, a2, a3, a4, a5, a6, a7, a8, a9, a10, a11, a12, a13, a14, a15, a16, a17, a18, a19, a20, a21, a22, a23, a24, a25)) (H1 : tj_in a10 (tj_code w (fun v => v) 5) = true → post 1 (lv, qu, ai, st, fo, an, bo, tc, oc, ac, a1, a2, a3, a4, a5, a6, a7, a8, a9, a10, a11, a12, a13, a14, a15, a16, a17, a18, a19, a20, a21, a22, a23, a24, a25)) : ∃ f, wX_answersItself_14 post (nI q) lv qu ai st fo an bo tc oc ac a1 a2 a3 a4 a5 a6 a7 a8 a9 a10 a11 a12 a13 a14 a15 a16 a17 a18 a19 a20 a21 a22 a23 a24 a25 f 0 0 := by
  have eq : a6 (nI q).toNatClampNeg = nI w := by rw [nI_clamp (by omega)]; exact hw
  have hc : tj_code w (fun v => v) 5 < 3125 := tj_code_lt 5 (fun v hv => hv)
  refine pk_loop (σ := Unit) (fun n i _ => wX_answersItself_14 post (nI q) lv qu ai st fo an bo tc oc ac a1 a2 a3 a4 a5 a6 a7 a8 a9 a10 a11 a12 a13 a14 a15 a16 a17 a18 a19 a20 a21 a22 a23 a24 a25 n (nI (tj_code w (fun v => v) i)) (nI i)) (fun _ _ => True) 5 0 () (by omega) trivial ?_ ?_
  · intro n _ _
    exact br_t (by decide) (tw_isIn rfl (by omega) (fun z => ⟨by rfl, H0 z⟩) (fun z => ⟨by rfl, H1 z⟩))
  · intro n i _ hi _ hw'
    have cond : (((a6 (nI q).toNatClampNeg >>> (nI i &&& 31)) &&& 1) = 0) ↔ w.testBit i = false := by rw [eq, tj_b0 _ (by omega), tj_nI _ (by omega)]
    refine br_f (nI_ge (b := 5) hi (by decide)) ⟨vp_in_nI hq (by decide), ek_if cond (fun z => nm_r (nI_1 i) ?_) (fun z => ?_)⟩
    · have t' := hw' () trivial
      try dsimp only at t'
      rw [tj_code_f z] at t'
      exact t'
    · have e15 : (5 : Int32) * nI (tj_code w (fun v => v) i) + nI i = nI (tj_code w (fun v => v) (i + 1)) := by
        rw [tj_code_t (tj_nf z)]
        exact tj_ix 5 _ _
      exact nm_r e15 (nm_r (nI_1 i) (hw' () trivial))
theorem tw_itself {post : Int32 → St2 → Prop} {x y : Int32} {q m w th : Nat} {P Q : Nat → Nat} {F : Nat → Bool} (hx : x = nI q) (hy : y = nI m) (hlv : lv = 2) (hq : q < 2) (hw : a6 q = nI w) (hm : ∃ i, i < 4 ∧ m.testBit i = true) (hqa : tj_QA a4 a5 q m P Q) (ht : tj_vs m (fun i => 2 ^ P i ||| 2 ^ Q i) 4 = th) (hwh : ∀ v, v < 5 → w.testBit v = true → th.testBit v = true) (hR : ∀ row, row < 25 → tj_h (a1 6) row = F row) (hc : tj_cnt F 25 ≤ 16) (hD : tj_DG a15) (ans : Bool) (hans : (∃ t, tj_RT m P Q F t ∧ tj_code w t 5 = tj_code w (fun v => v) 5) ↔ ans = true)
    (H : ∀ qu' ai' st' fo' an' oc' ac' b7 b8 b9 b10 b15 b18 b19 b20 b21 b22 b23 b24 b25, tj_DG b15 → post (if ans = true then 1 else 0) (lv, qu', ai', st', fo', an', bo, tc, oc', ac', a1, a2, a3, a4, a5, a6, b7, b8, b9, b10, a11, a12, a13, a14, b15, a16, a17, b18, b19, b20, b21, b22, b23, b24, b25)) : wpX_answersItself post (lv, qu, ai, st, fo, an, bo, tc, oc, ac, a1, a2, a3, a4, a5, a6, a7, a8, a9, a10, a11, a12, a13, a14, a15, a16, a17, a18, a19, a20, a21, a22, a23, a24, a25) x y := by
  subst hx
  unfold wpX_answersItself
  refine tw_workOut (f := 6) rfl hy rfl hlv hq (by decide) hw hm hqa ht hwh hR hc hD (fun qu' ai' st' fo' an' oc' ac' b7 b8 b9 b10 b15 b18 b19 b20 b21 b22 b23 b24 b25 g1 g2 => ?_)
  have hcode : tj_code w (fun v => v) 5 < 3125 := tj_code_lt 5 (fun v hv => hv)
  have key := (g2 _ (show tj_code w (fun v => v) 5 < 3136 by omega)).trans hans
  have h := H qu' ai' st' fo' an' oc' ac' b7 b8 b9 b10 b15 b18 b19 b20 b21 b22 b23 b24 b25 g1
  refine tw_itself14 hq hw (fun z => ?_) (fun z => ?_)
  · rw [z] at key
    have : ¬ ans = true := fun e => absurd (key.mpr e) (by decide)
    rw [if_neg this] at h
    exact h
  · rw [if_pos (key.mp z)] at h
    exact h
theorem tw_within {post : Int32 → St2 → Prop} {x : Int32} {q q' n n' w th th' : Nat} {P Q P' Q' : Nat → Nat} (hx : x = nI q) (hqq : (q = 0 ∧ q' = 1) ∨ (q = 1 ∧ q' = 0)) (hlv : lv = 2) (hQ : tj_QQ a3 a4 a5 a6 q n w th P Q) (hQ' : tj_QQ a3 a4 a5 a6 q' n' w th' P' Q') (hz : (nI w &&& (nI th ^^^ (-1))) = 0) (hz' : (nI w &&& (nI th' ^^^ (-1))) = 0) (hwh : ∀ v, v < 5 → w.testBit v = true → th'.testBit v = true) (hD : tj_DG a15) (hc : tj_cnt (tj_fz (2 ^ n - 1) P Q) 25 ≤ 16) (ans : Bool) (hans : (∃ t, tj_RT (2 ^ n' - 1) P' Q' (tj_fz (2 ^ n - 1) P Q) t ∧ tj_code w t 5 = tj_code w (fun v => v) 5) ↔ ans = true)
    (H : ∀ qu' ai' st' fo' an' oc' ac' b1 b7 b8 b9 b10 b15 b18 b19 b20 b21 b22 b23 b24 b25, (∀ k, k < 6 → b1 k = a1 k) → tj_DG b15 → post (if ans = true then 1 else 0) (lv, qu', ai', st', fo', an', bo, tc, oc', ac', b1, a2, a3, a4, a5, a6, b7, b8, b9, b10, a11, a12, a13, a14, b15, a16, a17, b18, b19, b20, b21, b22, b23, b24, b25)) : wpX_within post (lv, qu, ai, st, fo, an, bo, tc, oc, ac, a1, a2, a3, a4, a5, a6, a7, a8, a9, a10, a11, a12, a13, a14, a15, a16, a17, a18, a19, a20, a21, a22, a23, a24, a25) x := by
  have q0 := hQ
  have q0' := hQ'
  obtain ⟨q1, q2, q3, q4, q5, q6, q7⟩ := hQ
  obtain ⟨r1, r2, r3, r4, r5, r6, r7⟩ := hQ'
  unfold wpX_within
  refine tw_isQ hx q1 (br_f (by decide) ?_)
  have e66 : a6 0 = a6 1 := by
    rcases hqq with ⟨e, e'⟩ | ⟨e, e'⟩
    · rw [e] at q6; rw [e'] at r6; rw [q6, r6]
    · rw [e] at q6; rw [e'] at r6; rw [q6, r6]
  have ex' : (1 : Int32) - x = nI q' := by
    rw [hx]
    rcases hqq with ⟨e, e'⟩ | ⟨e, e'⟩
    · rw [e, e']; decide
    · rw [e, e']; decide
  have wh : ∀ φ : Int32 → Prop, φ 1 → wpX_whole φ (lv, qu, ai, st, fo, an, bo, tc, oc, ac, a1, a2, a3, a4, a5, a6, a7, a8, a9, a10, a11, a12, a13, a14, a15, a16, a17, a18, a19, a20, a21, a22, a23, a24, a25) 0 ∧ wpX_whole φ (lv, qu, ai, st, fo, an, bo, tc, oc, ac, a1, a2, a3, a4, a5, a6, a7, a8, a9, a10, a11, a12, a13, a14, a15, a16, a17, a18, a19, a20, a21, a22, a23, a24, a25) 1 := by
    intro φ hφ
    rcases hqq with ⟨e, e'⟩ | ⟨e, e'⟩
    · subst e e'; exact ⟨tw_wholeQ rfl q0 hz hφ, tw_wholeQ rfl q0' hz' hφ⟩
    · subst e e'; exact ⟨tw_wholeQ rfl q0' hz' hφ, tw_wholeQ rfl q0 hz hφ⟩
  refine (wh _ (br_f (by decide) ?_)).1
  refine (wh _ (br_f (by decide) (br_t e66 ?_))).2
  refine tw_allAtoms hx q1 q4 q3 (tw_allAtoms ex' r1 r4 r3 ?_)
  refine tw_freeze hx rfl q1 q5 (fun b1 k1 k2 => ?_)
  refine tw_itself (F := tj_fz (2 ^ n - 1) P Q) ex' rfl hlv r1 r6 ⟨0, by decide, tj_pw_bit n' r3 r2⟩ r5 r7 hwh (fun row hr => ?_) hc hD ans hans (fun qu' ai' st' fo' an' oc' ac' b7 b8 b9 b10 b15 b18 b19 b20 b21 b22 b23 b24 b25 g1 => ?_)
  · have t := (k2 row).trans (tj_fz_iff _ P Q row).symm
    cases h1 : tj_h (b1 6) row
    · cases h2 : tj_fz (2 ^ n - 1) P Q row
      · rfl
      · rw [t.mpr h2] at h1; exact absurd h1 (by decide)
    · exact (t.mp h1).symm
  · have h := H qu' ai' st' fo' an' oc' ac' b1 b7 b8 b9 b10 b15 b18 b19 b20 b21 b22 b23 b24 b25 k1 g1
    cases ans with
    | true => exact br_f (by decide) h
    | false => exact br_t (by decide) h
end
end
section
theorem tj_QA_sub {a4 a5 : Nat → Int32} {q m m' : Nat} {P Q : Nat → Nat} (h : tj_QA a4 a5 q m P Q) (hs : ∀ i, i < 4 → m'.testBit i = true → m.testBit i = true) : tj_QA a4 a5 q m' P Q := fun i hi hb => h i hi (hs i hi hb)
section
variable {lv qu ai st fo an bo tc oc ac : Int32} {a1 : Nat → Int64} {a2 : Nat → Int32} {a3 : Nat → Int32} {a4 : Nat → Int32} {a5 : Nat → Int32} {a6 : Nat → Int32} {a7 : Nat → Int32} {a8 : Nat → Int32} {a9 : Nat → Int32} {a10 : Nat → Int64} {a11 : Nat → Int64} {a12 : Nat → Int64} {a13 : Nat → Int32} {a14 : Nat → Int32} {a15 : Nat → Int32} {a16 : Nat → Int32} {a17 : Nat → Int32} {a18 : Nat → Int32} {a19 : Nat → Int32} {a20 : Nat → Int32} {a21 : Nat → Int32} {a22 : Nat → Int32} {a23 : Nat → Int32} {a24 : Nat → Int32} {a25 : Nat → Int32}
theorem tw_sm_end {post : Int32 → St2 → Prop} {x2 x3 : Int32} {f q n i : Nat} (hq : q < 2) (hn : n < 5) (h3 : a3 q = nI n) (hi : n = i) (H : post x3 (lv, qu, ai, st, fo, an, bo, tc, oc, ac, a1, a2, a3, a4, a5, a6, a7, a8, a9, a10, a11, a12, a13, a14, a15, a16, a17, a18, a19, a20, a21, a22, a23, a24, a25)) : wX_smallest_37 post (nI q) (f + 1) x2 x3 (nI i) lv qu ai st fo an bo tc oc ac a1 a2 a3 a4 a5 a6 a7 a8 a9 a10 a11 a12 a13 a14 a15 a16 a17 a18 a19 a20 a21 a22 a23 a24 a25 := by
  have e3 : a3 (nI q).toNatClampNeg = nI n := by rw [nI_clamp (by omega)]; exact h3
  exact ⟨vp_in_nI hq (by decide), pk_le n i (fun _ => H) (fun z => absurd z (by omega)) e3⟩
theorem tw_sm_skip {post : Int32 → St2 → Prop} {x3 : Int32} {f q n w th th' i kept rest : Nat} {P Q : Nat → Nat} (hQ : tj_QQ a3 a4 a5 a6 q n w th P Q) (hi : i < n) (hr : nI kept &&& (((1 : Int32) <<< (nI i &&& 31)) ^^^ (-1)) = nI rest) (hr0 : rest ≠ 0) (hr16 : rest < 16) (hsub : ∀ i, i < 4 → rest.testBit i = true → (2 ^ n - 1).testBit i = true) (ht : tj_vs rest (fun i => 2 ^ P i ||| 2 ^ Q i) 4 = th') (hz : ¬ (nI w &&& (nI th' ^^^ (-1))) = 0)
    (H : wX_smallest_37 post (nI q) f (nI kept) x3 (nI (i + 1)) lv qu ai st fo an bo tc oc ac a1 a2 a3 a4 a5 a6 a7 a8 a9 a10 a11 a12 a13 a14 a15 a16 a17 a18 a19 a20 a21 a22 a23 a24 a25) : wX_smallest_37 post (nI q) (f + 1) (nI kept) x3 (nI i) lv qu ai st fo an bo tc oc ac a1 a2 a3 a4 a5 a6 a7 a8 a9 a10 a11 a12 a13 a14 a15 a16 a17 a18 a19 a20 a21 a22 a23 a24 a25 := by
  obtain ⟨q1, q2, q3, q4, q5, q6, q7⟩ := hQ
  have e3 : a3 (nI q).toNatClampNeg = nI n := by rw [nI_clamp (by omega)]; exact q4
  refine ⟨vp_in_nI q1 (by decide), pk_le n i (fun z => absurd z (by omega)) (fun _ => nm_r hr ?_) e3⟩
  exact tw_isWhole_f rfl rfl q1 hr0 hr16 (tj_QA_sub q5 hsub) q6 ht hz (br_t rfl (nm_r (nI_1 i) H))
theorem tw_sm_test {post : Int32 → St2 → Prop} {f q n w th thr thk i kept rest c : Nat} {P Q : Nat → Nat} (hlv : lv = 2) (hQ : tj_QQ a3 a4 a5 a6 q n w th P Q) (hi : i < n) (hr : nI kept &&& (((1 : Int32) <<< (nI i &&& 31)) ^^^ (-1)) = nI rest) (hr0 : rest ≠ 0) (hr16 : rest < 16) (hsub : ∀ i, i < 4 → rest.testBit i = true → (2 ^ n - 1).testBit i = true) (ht : tj_vs rest (fun i => 2 ^ P i ||| 2 ^ Q i) 4 = thr) (hz : (nI w &&& (nI thr ^^^ (-1))) = 0)
    (hm : ∃ i, i < 4 ∧ kept.testBit i = true) (hsubk : ∀ i, i < 4 → kept.testBit i = true → (2 ^ n - 1).testBit i = true) (htk : tj_vs kept (fun i => 2 ^ P i ||| 2 ^ Q i) 4 = thk) (hwh : ∀ v, v < 5 → w.testBit v = true → thk.testBit v = true) (hD : tj_DG a15) (hc : tj_cnt (tj_fz rest P Q) 25 ≤ 16) (ans : Bool) (hans : (∃ t, tj_RT kept P Q (tj_fz rest P Q) t ∧ tj_code w t 5 = tj_code w (fun v => v) 5) ↔ ans = true)
    (H0 : ans = false → ∀ qu' ai' st' fo' an' oc' ac' b1 b7 b8 b9 b10 b15 b18 b19 b20 b21 b22 b23 b24 b25, (∀ k, k < 6 → b1 k = a1 k) → tj_DG b15 → wX_smallest_37 post (nI q) f (nI kept) (nI (c + 1)) (nI (i + 1)) lv qu' ai' st' fo' an' bo tc oc' ac' b1 a2 a3 a4 a5 a6 b7 b8 b9 b10 a11 a12 a13 a14 b15 a16 a17 b18 b19 b20 b21 b22 b23 b24 b25)
    (H1 : ans = true → ∀ qu' ai' st' fo' an' oc' ac' b1 b7 b8 b9 b10 b15 b18 b19 b20 b21 b22 b23 b24 b25, (∀ k, k < 6 → b1 k = a1 k) → tj_DG b15 → wX_smallest_37 post (nI q) f (nI rest) (nI c) (nI (i + 1)) lv qu' ai' st' fo' an' bo tc oc' ac' b1 a2 a3 a4 a5 a6 b7 b8 b9 b10 a11 a12 a13 a14 b15 a16 a17 b18 b19 b20 b21 b22 b23 b24 b25) : wX_smallest_37 post (nI q) (f + 1) (nI kept) (nI (c + 1)) (nI i) lv qu ai st fo an bo tc oc ac a1 a2 a3 a4 a5 a6 a7 a8 a9 a10 a11 a12 a13 a14 a15 a16 a17 a18 a19 a20 a21 a22 a23 a24 a25 := by
  obtain ⟨q1, q2, q3, q4, q5, q6, q7⟩ := hQ
  have e3 : a3 (nI q).toNatClampNeg = nI n := by rw [nI_clamp (by omega)]; exact q4
  refine ⟨vp_in_nI q1 (by decide), pk_le n i (fun z => absurd z (by omega)) (fun _ => nm_r hr ?_) e3⟩
  refine tw_isWhole_t rfl rfl q1 hr0 hr16 (tj_QA_sub q5 hsub) q6 ht hz (br_f (by decide) ?_)
  refine tw_freeze rfl rfl q1 (tj_QA_sub q5 hsub) (fun b1 k1 k2 => ?_)
  refine tw_itself (F := tj_fz rest P Q) rfl rfl hlv q1 q6 hm (tj_QA_sub q5 hsubk) htk hwh (fun row hr => ?_) hc hD ans hans (fun qu' ai' st' fo' an' oc' ac' b7 b8 b9 b10 b15 b18 b19 b20 b21 b22 b23 b24 b25 g1 => ?_)
  · have t := (k2 row).trans (tj_fz_iff _ P Q row).symm
    cases h1 : tj_h (b1 6) row
    · cases h2 : tj_fz rest P Q row
      · rfl
      · rw [t.mpr h2] at h1; exact absurd h1 (by decide)
    · exact (t.mp h1).symm
  · cases ans with
    | true => exact br_f (by decide) (nm_r (pk_m1 c) (nm_r (nI_1 i) (H1 rfl _ _ _ _ _ _ _ b1 _ _ _ _ _ _ _ _ _ _ _ _ _ k1 g1)))
    | false => exact br_t (by decide) (nm_r (nI_1 i) (H0 rfl _ _ _ _ _ _ _ b1 _ _ _ _ _ _ _ _ _ _ _ _ _ k1 g1))
/-! ===== trees ===== -/
/-- the atom to hang on, from j on -/
def tj_hg (vm : Nat → Nat) (others sh : Nat) : Nat → Nat → Int32
  | 0, _ => -2
  | f + 1, j => if others.testBit j = true ∧ (nI sh &&& (nI (vm j) ^^^ (-1))) = 0 then nI j else tj_hg vm others sh f (j + 1)
theorem tw_hang38 {post : Int32 → Prop} {q others sh : Nat} {P Q : Nat → Nat} (hq : q < 2) (hqa : tj_QA a4 a5 q others P Q) : ∀ f j, f + j = 4 → post (tj_hg (fun i => 2 ^ P i ||| 2 ^ Q i) others sh f j) → wX_whereToHang_38 post (nI q) (nI others) (nI sh) lv qu ai st fo an bo tc oc ac a1 a2 a3 a4 a5 a6 a7 a8 a9 a10 a11 a12 a13 a14 a15 a16 a17 a18 a19 a20 a21 a22 a23 a24 a25 (f + 1) (nI j) := by
  intro f
  induction f with
  | zero =>
    intro j hj H
    exact pk_le 4 j (fun _ => H) (fun z => absurd z (by omega))
  | succ f ih =>
    intro j hj H
    refine br_f (nI_ge (b := 4) (by omega) (by decide)) (ek_if (show (((nI others >>> (nI j &&& 31)) &&& 1) = 0) ↔ others.testBit j = false by rw [tj_b0 _ (show j < 32 by omega), tj_nI _ (by omega)]) (fun z => nm_r (nI_1 j) (ih (j + 1) (by omega) ?_)) (fun z => ?_))
    · have e : tj_hg (fun i => 2 ^ P i ||| 2 ^ Q i) others sh (f + 1) j = tj_hg (fun i => 2 ^ P i ||| 2 ^ Q i) others sh f (j + 1) := if_neg (fun h => by rw [h.1] at z; exact absurd z (by decide))
      rw [e] at H
      exact H
    · have hb := tj_nf z
      refine tw_vAtom (k := 4 * q + j) (tj_ix 4 q j) (by omega) (hqa j (by omega) hb) (br_c (fun g => ?_) (fun g => nm_r (nI_1 j) (ih (j + 1) (by omega) ?_)))
      · have e : tj_hg (fun i => 2 ^ P i ||| 2 ^ Q i) others sh (f + 1) j = nI j := if_pos ⟨hb, g⟩
        rw [e] at H
        exact H
      · have e : tj_hg (fun i => 2 ^ P i ||| 2 ^ Q i) others sh (f + 1) j = tj_hg (fun i => 2 ^ P i ||| 2 ^ Q i) others sh f (j + 1) := if_neg (fun h => g h.2)
        rw [e] at H
        exact H
theorem tw_hang {post : Int32 → Prop} {x y z : Int32} {q m left i others : Nat} {P Q : Nat → Nat} (r : Int32) (hx : x = nI q) (hy : y = nI left) (hz : z = nI i) (hq : q < 2) (hi : i < 4) (hqa : tj_QA a4 a5 q m P Q) (ho : nI left &&& (((1 : Int32) <<< (nI i &&& 31)) ^^^ (-1)) = nI others) (ho0 : others ≠ 0) (ho16 : others < 16) (hsub : ∀ i, i < 4 → others.testBit i = true → m.testBit i = true) (hbi : m.testBit i = true) (hr : tj_hg (fun i => 2 ^ P i ||| 2 ^ Q i) others ((2 ^ P i ||| 2 ^ Q i) &&& tj_vs others (fun i => 2 ^ P i ||| 2 ^ Q i) 4) 4 0 = r) (H : post r) : wpX_whereToHang post (lv, qu, ai, st, fo, an, bo, tc, oc, ac, a1, a2, a3, a4, a5, a6, a7, a8, a9, a10, a11, a12, a13, a14, a15, a16, a17, a18, a19, a20, a21, a22, a23, a24, a25) x y z := by
  subst hx hy hz hr
  refine nm_r ho (br_f (nI_ne0 (by omega) (by omega)) ?_)
  refine tw_vAtom (k := 4 * q + i) (tj_ix 4 q i) (by omega) (hqa i hi hbi) ?_
  refine tw_vOf rfl rfl hq (tj_QA_sub hqa hsub) (nm_r (tj_nand _ _) ⟨5, ?_⟩)
  exact tw_hang38 hq (tj_QA_sub hqa hsub) 4 0 rfl H
theorem tw_hang1 {post : Int32 → Prop} {x y z : Int32} {left i : Nat} (hy : y = nI left) (hz : z = nI i) (ho : nI left &&& (((1 : Int32) <<< (nI i &&& 31)) ^^^ (-1)) = 0) (H : post (-1)) : wpX_whereToHang post (lv, qu, ai, st, fo, an, bo, tc, oc, ac, a1, a2, a3, a4, a5, a6, a7, a8, a9, a10, a11, a12, a13, a14, a15, a16, a17, a18, a19, a20, a21, a22, a23, a24, a25) x y z := by
  subst hy hz
  exact nm_r ho (br_t rfl H)
end
end
section
/-- the variables of the law's atoms, by question and place -/
def tj_P (q i : Nat) : Nat := if q = 0 then (if i = 1 then 1 else 0) else (if i = 2 then 2 else if i = 1 then 1 else 0)
def tj_Q (q i : Nat) : Nat := if q = 0 then (if i = 0 then 1 else if i = 1 then 2 else 3) else (if i = 0 then 1 else if i = 1 then 2 else 0)
section
variable {lv qu ai st fo an bo tc oc ac : Int32} {a1 : Nat → Int64} {a2 : Nat → Int32} {a3 : Nat → Int32} {a4 : Nat → Int32} {a5 : Nat → Int32} {a6 : Nat → Int32} {a7 : Nat → Int32} {a8 : Nat → Int32} {a9 : Nat → Int32} {a10 : Nat → Int64} {a11 : Nat → Int64} {a12 : Nat → Int64} {a13 : Nat → Int32} {a14 : Nat → Int32} {a15 : Nat → Int32} {a16 : Nat → Int32} {a17 : Nat → Int32} {a18 : Nat → Int32} {a19 : Nat → Int32} {a20 : Nat → Int32} {a21 : Nat → Int32} {a22 : Nat → Int32} {a23 : Nat → Int32} {a24 : Nat → Int32} {a25 : Nat → Int32}
theorem tw_findTree0 {post : Int32 → St2 → Prop} {x y : Int32} (hx : x = 0) (hy : y = nI 3) (hqa : tj_QA a4 a5 0 3 (tj_P 0) (tj_Q 0)) (H : ∀ tc' b16 b17, post 1 (lv, qu, ai, st, fo, an, bo, tc', oc, ac, a1, a2, a3, a4, a5, a6, a7, a8, a9, a10, a11, a12, a13, a14, a15, b16, b17, a18, a19, a20, a21, a22, a23, a24, a25)) : wpX_findTree post (lv, qu, ai, st, fo, an, bo, tc, oc, ac, a1, a2, a3, a4, a5, a6, a7, a8, a9, a10, a11, a12, a13, a14, a15, a16, a17, a18, a19, a20, a21, a22, a23, a24, a25) x y := by
  subst hx hy
  refine ⟨3, ?_⟩
  refine br_f (by decide) (br_f (by decide) ⟨2, ?_⟩)
  refine br_f (by decide) (br_t rfl (br_f (by decide) ?_))
  refine tw_hang (q := 0) (m := 3) (left := 3) (i := 0) (others := 2) (P := tj_P 0) (Q := tj_Q 0) (nI 1) rfl rfl rfl (by decide) (by decide) hqa (by decide) (by decide) (by decide) (by decide) (by decide) (by decide) ?_
  refine br_f (by decide) ⟨pk_in 0 4 (by decide), nm_e ⟨pk_in 0 4 (by decide), nm_e (nm_r (show (0 : Int32) + 1 = nI 1 by decide) (nm_r (e' := nI 2) (by decide) (nm_r (show (0 : Int32) + 1 = nI 1 by decide) ?_)))⟩⟩
  refine br_f (by decide) (br_f (by decide) ?_)
  refine br_f (by decide) (br_f (by decide) ⟨3, ?_⟩)
  refine br_f (by decide) (br_t rfl (br_t (by decide) (nm_r (show (0 : Int32) + 1 = nI 1 by decide) ?_)))
  refine br_f (by decide) (br_t rfl (br_f (by decide) ?_))
  refine tw_hang1 (left := 2) (i := 1) rfl rfl (by decide) ?_
  refine br_f (by decide) ⟨pk_in 1 4 (by decide), nm_e ⟨pk_in 1 4 (by decide), nm_e (nm_e (nm_r (e' := 0) (by decide) (nm_r (show nI 1 + 1 = nI 2 by decide) ?_)))⟩⟩
  refine br_f (by decide) (br_f (by decide) ?_)
  exact br_t rfl (br_t rfl (H _ _ _))
theorem tw_findTree1 {post : Int32 → St2 → Prop} {x y : Int32} (hx : x = 1) (hy : y = nI 7) (hqa : tj_QA a4 a5 1 7 (tj_P 1) (tj_Q 1)) (H : post 0 (lv, qu, ai, st, fo, an, bo, 0, oc, ac, a1, a2, a3, a4, a5, a6, a7, a8, a9, a10, a11, a12, a13, a14, a15, a16, a17, a18, a19, a20, a21, a22, a23, a24, a25)) : wpX_findTree post (lv, qu, ai, st, fo, an, bo, tc, oc, ac, a1, a2, a3, a4, a5, a6, a7, a8, a9, a10, a11, a12, a13, a14, a15, a16, a17, a18, a19, a20, a21, a22, a23, a24, a25) x y := by
  subst hx hy
  refine ⟨2, ?_⟩
  refine br_f (by decide) (br_f (by decide) ⟨5, ?_⟩)
  refine br_f (by decide) (br_t rfl (br_f (by decide) ?_))
  refine tw_hang (q := 1) (m := 7) (left := 7) (i := 0) (others := 6) (P := tj_P 1) (Q := tj_Q 1) (-2) rfl rfl rfl (by decide) (by decide) hqa (by decide) (by decide) (by decide) (by decide) (by decide) (by decide) (br_t rfl (nm_r (show (0 : Int32) + 1 = nI 1 by decide) ?_))
  refine br_f (by decide) (br_t rfl (br_f (by decide) ?_))
  refine tw_hang (q := 1) (m := 7) (left := 7) (i := 1) (others := 5) (P := tj_P 1) (Q := tj_Q 1) (-2) rfl rfl rfl (by decide) (by decide) hqa (by decide) (by decide) (by decide) (by decide) (by decide) (by decide) (br_t rfl (nm_r (show nI 1 + 1 = nI 2 by decide) ?_))
  refine br_f (by decide) (br_t rfl (br_f (by decide) ?_))
  refine tw_hang (q := 1) (m := 7) (left := 7) (i := 2) (others := 3) (P := tj_P 1) (Q := tj_Q 1) (-2) rfl rfl rfl (by decide) (by decide) hqa (by decide) (by decide) (by decide) (by decide) (by decide) (by decide) (br_t rfl (nm_r (show nI 2 + 1 = nI 3 by decide) ?_))
  refine br_f (by decide) (br_t rfl (br_t (by decide) (nm_r (show nI 3 + 1 = nI 4 by decide) ?_)))
  refine br_t (by decide) ?_
  exact br_f (by decide) (br_t rfl (br_f (by decide) H))
theorem tw_tree0 {post : Int32 → St2 → Prop} (h3 : a3 0 = nI 2) (hqa : tj_QA a4 a5 0 3 (tj_P 0) (tj_Q 0)) (H : ∀ tc' b16 b17, post 1 (lv, qu, ai, st, fo, an, bo, tc', oc, ac, a1, a2, a3, a4, a5, a6, a7, a8, a9, a10, a11, a12, a13, a14, a15, b16, b17, a18, a19, a20, a21, a22, a23, a24, a25)) : wpX_treeLike post (lv, qu, ai, st, fo, an, bo, tc, oc, ac, a1, a2, a3, a4, a5, a6, a7, a8, a9, a10, a11, a12, a13, a14, a15, a16, a17, a18, a19, a20, a21, a22, a23, a24, a25) 0 := by
  unfold wpX_treeLike
  refine tw_isQ (q := 0) rfl (by decide) (br_f (by decide) (tw_allAtoms (q := 0) (n := 2) rfl (by decide) h3 (by decide) ?_))
  exact tw_findTree0 rfl (by decide) hqa (fun tc' b16 b17 => br_f (by decide) (H tc' b16 b17))
theorem tw_tree1 {post : Int32 → St2 → Prop} (h3 : a3 1 = nI 3) (hqa : tj_QA a4 a5 1 7 (tj_P 1) (tj_Q 1)) (H : post 0 (lv, qu, ai, st, fo, an, bo, 0, oc, ac, a1, a2, a3, a4, a5, a6, a7, a8, a9, a10, a11, a12, a13, a14, a15, a16, a17, a18, a19, a20, a21, a22, a23, a24, a25)) : wpX_treeLike post (lv, qu, ai, st, fo, an, bo, tc, oc, ac, a1, a2, a3, a4, a5, a6, a7, a8, a9, a10, a11, a12, a13, a14, a15, a16, a17, a18, a19, a20, a21, a22, a23, a24, a25) 1 := by
  unfold wpX_treeLike
  refine tw_isQ (q := 1) rfl (by decide) (br_f (by decide) (tw_allAtoms (q := 1) (n := 3) rfl (by decide) h3 (by decide) ?_))
  exact tw_findTree1 rfl (by decide) hqa (br_t rfl H)
/-! ===== the small public methods ===== -/
theorem tw_ask {post : Int32 → St2 → Prop} {x y : Int32} {q w : Nat} (hx : x = nI q) (hy : y = nI w) (hq : q < 2) (hw : w < 32) (H : post 1 (lv, qu, ai, st, fo, an, bo, tc, oc, ac, a1, a2, a3, a4, a5, (upd a6 q (nI w)), a7, a8, a9, a10, a11, a12, a13, a14, a15, a16, a17, a18, a19, a20, a21, a22, a23, a24, a25)) : wpX_ask post (lv, qu, ai, st, fo, an, bo, tc, oc, ac, a1, a2, a3, a4, a5, a6, a7, a8, a9, a10, a11, a12, a13, a14, a15, a16, a17, a18, a19, a20, a21, a22, a23, a24, a25) x y := by
  subst hx hy
  unfold wpX_ask
  refine tw_isQ rfl hq (br_f (by decide) (br_f (nI_pos (by omega)) (br_t (nI_le (b := 31) (by omega) (by decide)) ⟨vp_in_nI hq (by decide), nm_r (by rw [nI_clamp (by omega), tj_i8 w (by omega)]) H⟩)))
theorem tw_ask32 {post : Int32 → St2 → Prop} (H : post 0 (lv, qu, ai, st, fo, an, bo, tc, oc, ac, a1, a2, a3, a4, a5, a6, a7, a8, a9, a10, a11, a12, a13, a14, a15, a16, a17, a18, a19, a20, a21, a22, a23, a24, a25)) : wpX_ask post (lv, qu, ai, st, fo, an, bo, tc, oc, ac, a1, a2, a3, a4, a5, a6, a7, a8, a9, a10, a11, a12, a13, a14, a15, a16, a17, a18, a19, a20, a21, a22, a23, a24, a25) 1 32 := by
  unfold wpX_ask
  exact tw_isQ (q := 1) rfl (by decide) (br_f (by decide) (br_f (by decide) (br_f (by decide) H)))
theorem tw_atom {post : Int32 → St2 → Prop} {x y z : Int32} {q n v : Nat} (hx : x = nI q) (hy : y = 0) (hz : z = nI v) (hq : q < 2) (hv : v < 25) (h3 : a3 q = nI n) (hn : n < 4)
    (H : post (nI (n + 1)) (lv, qu, ai, st, fo, an, bo, tc, oc, ac, a1, a2, (upd a3 q (nI (n + 1))), (upd a4 (4 * q + n) 0), (upd (upd (upd a5 (3 * (4 * q + n)) (nI (v / 5))) (3 * (4 * q + n) + 1) (nI (v % 5))) (3 * (4 * q + n) + 2) (-1)), a6, a7, a8, a9, a10, a11, a12, a13, a14, a15, a16, a17, a18, a19, a20, a21, a22, a23, a24, a25)) : wpX_atom post (lv, qu, ai, st, fo, an, bo, tc, oc, ac, a1, a2, a3, a4, a5, a6, a7, a8, a9, a10, a11, a12, a13, a14, a15, a16, a17, a18, a19, a20, a21, a22, a23, a24, a25) x y z := by
  subst hx hy hz
  have cq : (nI q).toNatClampNeg = q := nI_clamp (by omega)
  have vq : vp_in (nI q) 2 := vp_in_nI hq (by decide)
  have e3 : a3 (nI q).toNatClampNeg = nI n := by rw [cq]; exact h3
  have ek : (4 : Int32) * nI q + a3 (nI q).toNatClampNeg = nI (4 * q + n) := by rw [e3]; exact tj_ix 4 q n
  unfold wpX_atom
  refine tw_isQ rfl hq (br_f (by decide) (tw_isRow1 rfl rfl hv (br_f (by decide) ⟨vq, pk_lt n 4 (fun _ => ⟨vq, nm_r ek ⟨vp_in_nI (by omega) (by decide), nm_r (e' := upd a4 (4 * q + n) 0) (by rw [nI_clamp (by omega)]; rfl) ⟨4, ?_⟩⟩⟩) (fun z => absurd z (by omega)) e3⟩)))
  have hk : 4 * q + n < 8 := by omega
  generalize 4 * q + n = k at hk H ⊢
  have ck : ∀ c, c < 3 → ((3 : Int32) * nI k + nI c).toNatClampNeg = 3 * k + c := fun c hc => tw_c3 k c hk hc
  have i0 : ∀ c, c < 3 → vp_in ((3 : Int32) * nI k + nI c) 24 := fun c hc => pk_in (3 * k + c) 24 (by omega) (tj_ix 3 k c)
  refine br_f (by decide) (tw_columnsOf rfl (br_f (by decide) (tw_col0 rfl rfl rfl hv ⟨i0 0 (by decide), nm_r (e' := upd a5 (3 * k) (nI (v / 5))) ?_ (nm_r (show (0 : Int32) + 1 = nI 1 by decide) ?_)⟩)))
  · show upd a5 ((3 : Int32) * nI k + nI 0).toNatClampNeg _ = _
    rw [ck 0 (by decide), tj_i8 _ (by omega)]
    rfl
  refine br_f (by decide) (tw_columnsOf rfl (br_f (by decide) (tw_col1 rfl rfl rfl hv ⟨i0 1 (by decide), nm_r (e' := upd (upd a5 (3 * k) (nI (v / 5))) (3 * k + 1) (nI (v % 5))) ?_ (nm_r (show nI 1 + 1 = nI 2 by decide) ?_)⟩)))
  · rw [ck 1 (by decide), tj_i8 _ (by omega)]
  refine br_f (by decide) (tw_columnsOf rfl (br_t (by decide) ⟨i0 2 (by decide), nm_r (e' := upd (upd (upd a5 (3 * k) (nI (v / 5))) (3 * k + 1) (nI (v % 5))) (3 * k + 2) (-1)) ?_ (nm_r (show nI 2 + 1 = nI 3 by decide) ?_)⟩))
  · rw [ck 2 (by decide)]
    rfl
  refine br_t (by decide) ⟨vq, vq, nm_r (e' := upd a3 q (nI (n + 1))) (by rw [cq, h3, nI_1, tj_i8 _ (by omega)]) ⟨vq, ?_⟩⟩
  rw [cq, pk_us]
  exact H
theorem tw_atomF {post : Int32 → St2 → Prop} {x y z : Int32} {q v : Nat} (hx : x = nI q) (hy : y = 0) (hz : z = nI v) (hq : q < 2) (hv : v < 25) (h3 : a3 q = nI 4) (H : post (-2) (lv, qu, ai, st, fo, an, bo, tc, oc, ac, a1, a2, a3, a4, a5, a6, a7, a8, a9, a10, a11, a12, a13, a14, a15, a16, a17, a18, a19, a20, a21, a22, a23, a24, a25)) : wpX_atom post (lv, qu, ai, st, fo, an, bo, tc, oc, ac, a1, a2, a3, a4, a5, a6, a7, a8, a9, a10, a11, a12, a13, a14, a15, a16, a17, a18, a19, a20, a21, a22, a23, a24, a25) x y z := by
  subst hx hy hz
  have e3 : a3 (nI q).toNatClampNeg = nI 4 := by rw [nI_clamp (by omega)]; exact h3
  unfold wpX_atom
  exact tw_isQ rfl hq (br_f (by decide) (tw_isRow1 rfl rfl hv (br_f (by decide) ⟨vp_in_nI hq (by decide), pk_lt 4 4 (fun z => absurd z (by omega)) (fun _ => H) e3⟩)))
theorem tw_cut {post : Int32 → St2 → Prop} (h3 : a3 0 = nI 4) (H : post (nI 3) (lv, qu, ai, st, fo, an, bo, tc, oc, ac, a1, a2, (upd a3 0 (nI 3)), a4, a5, a6, a7, a8, a9, a10, a11, a12, a13, a14, a15, a16, a17, a18, a19, a20, a21, a22, a23, a24, a25)) : wpX_cut post (lv, qu, ai, st, fo, an, bo, tc, oc, ac, a1, a2, a3, a4, a5, a6, a7, a8, a9, a10, a11, a12, a13, a14, a15, a16, a17, a18, a19, a20, a21, a22, a23, a24, a25) 0 3 := by
  have e3 : a3 (0 : Int32).toNatClampNeg = nI 4 := by rw [sb_cl0]; exact h3
  have vq : vp_in (0 : Int32) 2 := pk_in 0 2 (by decide)
  unfold wpX_cut
  refine tw_isQ (q := 0) rfl (by decide) (br_f (by decide) (br_f (by decide) ⟨vq, br_t (by rw [e3]; decide) ⟨vq, vq, nm_r (e' := upd a3 0 (nI 3)) (by rw [sb_cl0, h3]; exact congrArg (upd a3 0) (by decide)) (nm_r (e' := nI 3) (by decide) ⟨1, vq, br_t ?_ ⟨vq, ?_⟩⟩)⟩⟩))
  · rw [sb_cl0, pk_us]; decide
  · rw [sb_cl0, pk_us]; exact H
theorem tw_cutB {post : Int32 → St2 → Prop} (h3 : a3 0 = nI 3) (H : post (-1) (lv, qu, ai, st, fo, an, bo, tc, oc, ac, a1, a2, a3, a4, a5, a6, a7, a8, a9, a10, a11, a12, a13, a14, a15, a16, a17, a18, a19, a20, a21, a22, a23, a24, a25)) : wpX_cut post (lv, qu, ai, st, fo, an, bo, tc, oc, ac, a1, a2, a3, a4, a5, a6, a7, a8, a9, a10, a11, a12, a13, a14, a15, a16, a17, a18, a19, a20, a21, a22, a23, a24, a25) 0 4 := by
  have e3 : a3 (0 : Int32).toNatClampNeg = nI 3 := by rw [sb_cl0]; exact h3
  unfold wpX_cut
  exact tw_isQ (q := 0) rfl (by decide) (br_f (by decide) (br_f (by decide) ⟨pk_in 0 2 (by decide), br_f (by rw [e3]; decide) H⟩))
theorem tw_add {post : Int32 → St2 → Prop} {x y : Int32} {row n : Nat} {R : Nat → Bool} (hx : x = 0) (hy : y = nI row) (hrow : row < 25) (hR : tj_h (a1 0) row = R row) (h2 : a2 0 = nI n) (hn : n ≤ 16)
    (H0 : R row = true → post 0 (lv, qu, ai, st, fo, an, bo, tc, oc, ac, a1, a2, a3, a4, a5, a6, a7, a8, a9, a10, a11, a12, a13, a14, a15, a16, a17, a18, a19, a20, a21, a22, a23, a24, a25)) (HF : R row = false → n = 16 → post (-2) (lv, qu, ai, st, fo, an, bo, tc, oc, ac, a1, a2, a3, a4, a5, a6, a7, a8, a9, a10, a11, a12, a13, a14, a15, a16, a17, a18, a19, a20, a21, a22, a23, a24, a25)) (H1 : R row = false → n < 16 → post 1 (lv, qu, ai, st, fo, an, bo, tc, oc, ac, (vp_updL a1 0 (a1 0 ||| ((1 : Int64) <<< ((nI row).toInt64 &&& 63)))), (upd a2 0 (nI (n + 1))), a3, a4, a5, a6, a7, a8, a9, a10, a11, a12, a13, a14, a15, a16, a17, a18, a19, a20, a21, a22, a23, a24, a25)) : wpX_add post (lv, qu, ai, st, fo, an, bo, tc, oc, ac, a1, a2, a3, a4, a5, a6, a7, a8, a9, a10, a11, a12, a13, a14, a15, a16, a17, a18, a19, a20, a21, a22, a23, a24, a25) x y := by
  subst hx hy
  have e2 : a2 (0 : Int32).toNatClampNeg = nI n := by rw [sb_cl0]; exact h2
  have v3 : vp_in (0 : Int32) 3 := pk_in 0 3 (by decide)
  unfold wpX_add
  refine tw_isRow1 rfl rfl hrow (br_f (by decide) ?_)
  refine tw_hasRow0 (f := 0) rfl rfl rfl (by decide) hrow (fun z => br_t rfl ⟨v3, pk_lt n 16 (fun l => ?_) (fun l => HF (by rw [← hR]; exact z) (by omega)) e2⟩) (fun z => br_f (by decide) (H0 (by rw [← hR]; exact z)))
  refine tw_setRow (f := 0) rfl rfl rfl (by decide) hrow ⟨v3, v3, nm_r (e' := upd a2 0 (nI (n + 1))) (by rw [sb_cl0, h2, nI_1, tj_i8 _ (by omega)]) (H1 (by rw [← hR]; exact z) l)⟩
theorem tw_remove {post : Int32 → St2 → Prop} {x y : Int32} {row : Nat} {b : Bool} (hx : x = 0) (hy : y = nI row) (hrow : row < 25) (hR : tj_h (a1 0) row = b)
    (H : ∀ u, post (if b = true then 1 else 0) u) : wpX_remove post (lv, qu, ai, st, fo, an, bo, tc, oc, ac, a1, a2, a3, a4, a5, a6, a7, a8, a9, a10, a11, a12, a13, a14, a15, a16, a17, a18, a19, a20, a21, a22, a23, a24, a25) x y := by
  subst hx hy
  have v3 : vp_in (0 : Int32) 3 := pk_in 0 3 (by decide)
  have e0 : (2 : Int32) * 0 + (nI row >>> ((6 : Int32) &&& 31)) = nI 0 := by
    rw [tj_sh6 (by omega), show row / 64 = 0 by omega]
    decide
  unfold wpX_remove
  refine tw_isRow1 rfl rfl hrow (br_f (by decide) ?_)
  refine tw_hasRow0 (f := 0) rfl rfl rfl (by decide) hrow (fun z => br_t rfl ?_) (fun z => br_f (by decide) ⟨pk_in 0 12 (by decide) e0, pk_in 0 12 (by decide) e0, nm_e ⟨v3, v3, nm_e ?_⟩⟩)
  · rw [hR] at z
    have h := H (lv, qu, ai, st, fo, an, bo, tc, oc, ac, a1, a2, a3, a4, a5, a6, a7, a8, a9, a10, a11, a12, a13, a14, a15, a16, a17, a18, a19, a20, a21, a22, a23, a24, a25)
    rw [z] at h
    exact h
  · rw [hR] at z
    rw [z] at H
    exact H _
theorem tw_removeB {post : Int32 → St2 → Prop} (H : post (-1) (lv, qu, ai, st, fo, an, bo, tc, oc, ac, a1, a2, a3, a4, a5, a6, a7, a8, a9, a10, a11, a12, a13, a14, a15, a16, a17, a18, a19, a20, a21, a22, a23, a24, a25)) : wpX_remove post (lv, qu, ai, st, fo, an, bo, tc, oc, ac, a1, a2, a3, a4, a5, a6, a7, a8, a9, a10, a11, a12, a13, a14, a15, a16, a17, a18, a19, a20, a21, a22, a23, a24, a25) 0 25 := by
  unfold wpX_remove
  exact tw_isRow (r := 0) (row := 25) rfl rfl (by decide) (by decide) (fun z => absurd z (by decide)) (fun _ => br_t rfl H)
end
end
section
/-- what the law knows of its object: the rows R of relation 0, the atoms of the two questions, what they ask -/
def tj_CO (lv : Int32) (a1 : Nat → Int64) (a2 a3 a4 a5 a6 a15 : Nat → Int32) (R : Nat → Bool) (n0 n1 w0 w1 : Nat) : Prop := lv = 2 ∧ (∀ row, row < 25 → tj_h (a1 0) row = R row) ∧ (∀ k, 1 ≤ k → k < 6 → a1 k = 0) ∧ tj_cnt R 25 ≤ 16 ∧ a2 0 = nI (tj_cnt R 25) ∧ a2 1 = 0 ∧ a3 0 = nI n0 ∧ a3 1 = nI n1 ∧ tj_QA a4 a5 0 (2 ^ n0 - 1) (tj_P 0) (tj_Q 0) ∧ tj_QA a4 a5 1 (2 ^ n1 - 1) (tj_P 1) (tj_Q 1) ∧ a6 0 = nI w0 ∧ a6 1 = nI w1 ∧ tj_DG a15
def tj_KK (u : St2) (R : Nat → Bool) (n0 n1 w0 w1 : Nat) : Prop := match u with
  | (lv, qu, ai, st, fo, an, bo, tc, oc, ac, a1, a2, a3, a4, a5, a6, a7, a8, a9, a10, a11, a12, a13, a14, a15, a16, a17, a18, a19, a20, a21, a22, a23, a24, a25) => tj_CO lv a1 a2 a3 a4 a5 a6 a15 R n0 n1 w0 w1
/-- question q of the two -/
def tj_SL (q n w n0 n1 w0 w1 : Nat) : Prop := (q = 0 ∧ n = n0 ∧ w = w0) ∨ (q = 1 ∧ n = n1 ∧ w = w1)
/-- a question in order: th its variables -/
def tj_OK (q n w th : Nat) : Prop := 0 < n ∧ n < 5 ∧ tj_vs (2 ^ n - 1) (fun i => 2 ^ tj_P q i ||| 2 ^ tj_Q q i) 4 = th
def tj_WH (w th : Nat) : Prop := (nI w &&& (nI th ^^^ (-1))) = 0 ∧ ∀ v, v < 5 → w.testBit v = true → th.testBit v = true
theorem tj_CO_QQ {lv : Int32} {a1 : Nat → Int64} {a2 a3 a4 a5 a6 a15 : Nat → Int32} {R : Nat → Bool} {n0 n1 w0 w1 q n w th : Nat} (h : tj_CO lv a1 a2 a3 a4 a5 a6 a15 R n0 n1 w0 w1) (hs : tj_SL q n w n0 n1 w0 w1) (ho : tj_OK q n w th) : tj_QQ a3 a4 a5 a6 q n w th (tj_P q) (tj_Q q) := by
  obtain ⟨h1, h2, h3, h4, h5, h6, h7, h8, h9, h10, h11, h12, h13⟩ := h
  obtain ⟨o1, o2, o3⟩ := ho
  rcases hs with ⟨e1, e2, e3⟩ | ⟨e1, e2, e3⟩
  · subst e1 e2 e3
    exact ⟨by decide, o1, o2, h7, h9, h11, o3⟩
  · subst e1 e2 e3
    exact ⟨by decide, o1, o2, h8, h10, h12, o3⟩
theorem tj_CO_keep {lv : Int32} {a1 b1 : Nat → Int64} {a2 a3 a4 a5 a6 a15 b15 : Nat → Int32} {R : Nat → Bool} {n0 n1 w0 w1 : Nat} (h : tj_CO lv a1 a2 a3 a4 a5 a6 a15 R n0 n1 w0 w1) (hb : ∀ k, k < 6 → b1 k = a1 k) (hd : tj_DG b15) : tj_CO lv b1 a2 a3 a4 a5 a6 b15 R n0 n1 w0 w1 := by
  obtain ⟨h1, h2, h3, h4, h5, h6, h7, h8, h9, h10, h11, h12, h13⟩ := h
  exact ⟨h1, fun row hr => by rw [hb 0 (by decide)]; exact h2 row hr, fun k k1 k2 => by rw [hb k k2]; exact h3 k k1 k2, h4, h5, h6, h7, h8, h9, h10, h11, h12, hd⟩
section
variable {u : St2} {R : Nat → Bool} {n0 n1 w0 w1 q n w th : Nat}
theorem tk_count {post : Int32 → St2 → Prop} {x : Int32} (hk : tj_KK u R n0 n1 w0 w1) (hx : x = nI q) (hs : tj_SL q n w n0 n1 w0 w1) (ho : tj_OK q n w th) (hw : tj_WH w th)
    (H : ∀ B : Nat → Bool, (∀ k, k < 3136 → (B k = true ↔ ∃ t, tj_RT (2 ^ n - 1) (tj_P q) (tj_Q q) R t ∧ tj_code w t 5 = k)) → ∀ u', tj_KK u' R n0 n1 w0 w1 → post (nI (tj_cnt B 3136)) u') : wpX_count post u x := by
  obtain ⟨lv, qu, ai, st, fo, an, bo, tc, oc, ac, a1, a2, a3, a4, a5, a6, a7, a8, a9, a10, a11, a12, a13, a14, a15, a16, a17, a18, a19, a20, a21, a22, a23, a24, a25⟩ := u
  have hk' : tj_CO lv a1 a2 a3 a4 a5 a6 a15 R n0 n1 w0 w1 := hk
  refine tw_count hx hk'.1 (tj_CO_QQ hk' hs ho) hw.1 hw.2 hk'.2.1 hk'.2.2.2.1 hk'.2.2.2.2.2.2.2.2.2.2.2.2 (fun B hB qu' ai' st' fo' an' oc' ac' b7 b8 b9 b10 b15 b18 b19 b20 b21 b22 b23 b24 b25 hD => H B hB _ (tj_CO_keep hk' (fun k _ => rfl) hD))
theorem tk_countN {post : Int32 → St2 → Prop} {x : Int32} (hk : tj_KK u R n0 n1 w0 w1) (hx : x = nI q) (hs : tj_SL q n w n0 n1 w0 w1) (ho : tj_OK q n w th) (hw : ¬ (nI w &&& (nI th ^^^ (-1))) = 0)
    (H : post (-3) u) : wpX_count post u x := by
  obtain ⟨lv, qu, ai, st, fo, an, bo, tc, oc, ac, a1, a2, a3, a4, a5, a6, a7, a8, a9, a10, a11, a12, a13, a14, a15, a16, a17, a18, a19, a20, a21, a22, a23, a24, a25⟩ := u
  have hk' : tj_CO lv a1 a2 a3 a4 a5 a6 a15 R n0 n1 w0 w1 := hk
  exact tw_countN hx (tj_CO_QQ hk' hs ho) hw H
theorem tk_wholeN {post : Int32 → Prop} {x : Int32} (hk : tj_KK u R n0 n1 w0 w1) (hx : x = nI q) (hs : tj_SL q n w n0 n1 w0 w1) (ho : tj_OK q n w th) (hw : ¬ (nI w &&& (nI th ^^^ (-1))) = 0)
    (H : post 0) : wpX_whole post u x := by
  obtain ⟨lv, qu, ai, st, fo, an, bo, tc, oc, ac, a1, a2, a3, a4, a5, a6, a7, a8, a9, a10, a11, a12, a13, a14, a15, a16, a17, a18, a19, a20, a21, a22, a23, a24, a25⟩ := u
  have hk' : tj_CO lv a1 a2 a3 a4 a5 a6 a15 R n0 n1 w0 w1 := hk
  exact tw_wholeN hx (tj_CO_QQ hk' hs ho) hw H
theorem tk_smallestN {post : Int32 → St2 → Prop} {x : Int32} (hk : tj_KK u R n0 n1 w0 w1) (hx : x = nI q) (hs : tj_SL q n w n0 n1 w0 w1) (ho : tj_OK q n w th) (hw : ¬ (nI w &&& (nI th ^^^ (-1))) = 0)
    (H : post (-3) u) : wpX_smallest post u x := by
  obtain ⟨lv, qu, ai, st, fo, an, bo, tc, oc, ac, a1, a2, a3, a4, a5, a6, a7, a8, a9, a10, a11, a12, a13, a14, a15, a16, a17, a18, a19, a20, a21, a22, a23, a24, a25⟩ := u
  have hk' : tj_CO lv a1 a2 a3 a4 a5 a6 a15 R n0 n1 w0 w1 := hk
  have hQ := tj_CO_QQ hk' hs ho
  unfold wpX_smallest
  exact tw_isQ hx hQ.1 (br_f (by decide) (tw_wholeN hx hQ hw (br_t rfl H)))
theorem tk_answer {post : Int32 → St2 → Prop} {x y : Int32} {k : Nat} (hk : tj_KK u R n0 n1 w0 w1) (hx : x = nI q) (hy : y = nI k) (hk31 : k < 2 ^ 31) (hs : tj_SL q n w n0 n1 w0 w1) (ho : tj_OK q n w th) (hw : tj_WH w th)
    (H : ∀ B : Nat → Bool, (∀ k, k < 3136 → (B k = true ↔ ∃ t, tj_RT (2 ^ n - 1) (tj_P q) (tj_Q q) R t ∧ tj_code w t 5 = k)) → ∀ r, ((∃ a, a < 3125 ∧ B a = true ∧ tj_cnt B a = k ∧ r = nI a) ∨ (tj_cnt B 3125 ≤ k ∧ r = -3)) → ∀ u', tj_KK u' R n0 n1 w0 w1 → post r u') : wpX_answer post u x y := by
  obtain ⟨lv, qu, ai, st, fo, an, bo, tc, oc, ac, a1, a2, a3, a4, a5, a6, a7, a8, a9, a10, a11, a12, a13, a14, a15, a16, a17, a18, a19, a20, a21, a22, a23, a24, a25⟩ := u
  have hk' : tj_CO lv a1 a2 a3 a4 a5 a6 a15 R n0 n1 w0 w1 := hk
  refine tw_answer hx hy hk31 hk'.1 (tj_CO_QQ hk' hs ho) hw.1 hw.2 hk'.2.1 hk'.2.2.2.1 hk'.2.2.2.2.2.2.2.2.2.2.2.2 (fun B hB r hr qu' ai' st' fo' an' oc' ac' b7 b8 b9 b10 b15 b18 b19 b20 b21 b22 b23 b24 b25 hD => H B hB r hr _ (tj_CO_keep hk' (fun k _ => rfl) hD))
theorem tk_often {post : Int32 → St2 → Prop} {x y z : Int32} {p : Nat} (hk : tj_KK u R n0 n1 w0 w1) (hx : x = nI q) (hy : y = 2) (hz : z = nI p) (hp : p < 5) (hs : tj_SL q n 5 n0 n1 w0 w1) (ho : tj_OK q n 5 th) (hw : tj_WH 5 th)
    (H : ∀ B : Nat → Bool, (∀ k, k < 3136 → (B k = true ↔ ∃ t, tj_RT (2 ^ n - 1) (tj_P q) (tj_Q q) R t ∧ tj_code 5 t 5 = k)) → ∀ u', tj_KK u' R n0 n1 w0 w1 → post (nI (tj_cnt (fun a => B a && decide (a % 5 = p)) 3125)) u') : wpX_often post u x y z := by
  obtain ⟨lv, qu, ai, st, fo, an, bo, tc, oc, ac, a1, a2, a3, a4, a5, a6, a7, a8, a9, a10, a11, a12, a13, a14, a15, a16, a17, a18, a19, a20, a21, a22, a23, a24, a25⟩ := u
  have hk' : tj_CO lv a1 a2 a3 a4 a5 a6 a15 R n0 n1 w0 w1 := hk
  refine tw_often hx hy hz hp hk'.1 (tj_CO_QQ hk' hs ho) hw.1 hw.2 hk'.2.1 hk'.2.2.2.1 hk'.2.2.2.2.2.2.2.2.2.2.2.2 (fun B hB qu' ai' st' fo' an' oc' ac' b7 b8 b9 b10 b15 b18 b19 b20 b21 b22 b23 b24 b25 hD => H B hB _ (tj_CO_keep hk' (fun k _ => rfl) hD))
theorem tk_idle {post : Int32 → St2 → Prop} {x : Int32} (hk : tj_KK u R n0 n1 w0 w1) (hx : x = nI q) (hs : tj_SL q n w n0 n1 w0 w1) (ho : tj_OK q n w th)
    (H : ∀ F : Nat → Bool, (∀ row, row < 25 → R row = true → (F row = true ↔ ∃ i, i < n ∧ ∃ t, tj_RT (2 ^ n - 1) (tj_P q) (tj_Q q) R t ∧ 5 * t (tj_P q i) + t (tj_Q q i) = row)) → ∀ u', tj_KK u' R n0 n1 w0 w1 → post (nI (tj_cnt (fun row => R row && !F row) 25)) u') : wpX_idle post u x := by
  obtain ⟨lv, qu, ai, st, fo, an, bo, tc, oc, ac, a1, a2, a3, a4, a5, a6, a7, a8, a9, a10, a11, a12, a13, a14, a15, a16, a17, a18, a19, a20, a21, a22, a23, a24, a25⟩ := u
  have hk' : tj_CO lv a1 a2 a3 a4 a5 a6 a15 R n0 n1 w0 w1 := hk
  refine tw_idle hx hk'.1 (tj_CO_QQ hk' hs ho) hk'.2.1 hk'.2.2.1 hk'.2.2.2.1 hk'.2.2.2.2.2.2.2.2.2.2.2.2 (fun F hF qu' ai' st' fo' an' oc' ac' b1 b7 b8 b9 b10 b15 b18 b19 b20 b21 b22 b23 b24 b25 k1 hD => H F hF _ (tj_CO_keep hk' k1 hD))
theorem tk_within {post : Int32 → St2 → Prop} {x : Int32} {q' n' th' : Nat} (hk : tj_KK u R n0 n1 w0 w1) (hx : x = nI q) (hqq : (q = 0 ∧ q' = 1) ∨ (q = 1 ∧ q' = 0)) (hs : tj_SL q n w n0 n1 w0 w1) (ho : tj_OK q n w th) (hw : tj_WH w th) (hs' : tj_SL q' n' w n0 n1 w0 w1) (ho' : tj_OK q' n' w th') (hw' : tj_WH w th') (hc : tj_cnt (tj_fz (2 ^ n - 1) (tj_P q) (tj_Q q)) 25 ≤ 16) (ans : Bool) (hans : (∃ t, tj_RT (2 ^ n' - 1) (tj_P q') (tj_Q q') (tj_fz (2 ^ n - 1) (tj_P q) (tj_Q q)) t ∧ tj_code w t 5 = tj_code w (fun v => v) 5) ↔ ans = true)
    (H : ∀ u', tj_KK u' R n0 n1 w0 w1 → post (if ans = true then 1 else 0) u') : wpX_within post u x := by
  obtain ⟨lv, qu, ai, st, fo, an, bo, tc, oc, ac, a1, a2, a3, a4, a5, a6, a7, a8, a9, a10, a11, a12, a13, a14, a15, a16, a17, a18, a19, a20, a21, a22, a23, a24, a25⟩ := u
  have hk' : tj_CO lv a1 a2 a3 a4 a5 a6 a15 R n0 n1 w0 w1 := hk
  refine tw_within hx hqq hk'.1 (tj_CO_QQ hk' hs ho) (tj_CO_QQ hk' hs' ho') hw.1 hw'.1 hw'.2 hk'.2.2.2.2.2.2.2.2.2.2.2.2 hc ans hans (fun qu' ai' st' fo' an' oc' ac' b1 b7 b8 b9 b10 b15 b18 b19 b20 b21 b22 b23 b24 b25 k1 hD => H _ (tj_CO_keep hk' k1 hD))
/-- the two questions ask differently -/
theorem tk_withinN {post : Int32 → St2 → Prop} {x : Int32} {th0 th1 : Nat} (hk : tj_KK u R n0 n1 w0 w1) (hx : x = nI q) (hq : q < 2) (ho0 : tj_OK 0 n0 w0 th0) (hw0 : tj_WH w0 th0) (ho1 : tj_OK 1 n1 w1 th1) (hw1 : tj_WH w1 th1) (hne : ¬ nI w0 = nI w1)
    (H : post (-3) u) : wpX_within post u x := by
  obtain ⟨lv, qu, ai, st, fo, an, bo, tc, oc, ac, a1, a2, a3, a4, a5, a6, a7, a8, a9, a10, a11, a12, a13, a14, a15, a16, a17, a18, a19, a20, a21, a22, a23, a24, a25⟩ := u
  have hk' : tj_CO lv a1 a2 a3 a4 a5 a6 a15 R n0 n1 w0 w1 := hk
  have h0 := tj_CO_QQ hk' (Or.inl ⟨rfl, rfl, rfl⟩) ho0
  have h1 := tj_CO_QQ hk' (Or.inr ⟨rfl, rfl, rfl⟩) ho1
  unfold wpX_within
  refine tw_isQ hx hq (br_f (by decide) (tw_wholeQ (q := 0) rfl h0 hw0.1 (br_f (by decide) (tw_wholeQ (q := 1) rfl h1 hw1.1 (br_f (by decide) (br_f ?_ H))))))
  rw [hk'.2.2.2.2.2.2.2.2.2.2.1, hk'.2.2.2.2.2.2.2.2.2.2.2.1]
  exact hne
theorem tk_tree0 {post : Int32 → St2 → Prop} (hk : tj_KK u R 2 n1 w0 w1) (H : ∀ u', tj_KK u' R 2 n1 w0 w1 → post 1 u') : wpX_treeLike post u 0 := by
  obtain ⟨lv, qu, ai, st, fo, an, bo, tc, oc, ac, a1, a2, a3, a4, a5, a6, a7, a8, a9, a10, a11, a12, a13, a14, a15, a16, a17, a18, a19, a20, a21, a22, a23, a24, a25⟩ := u
  have hk' : tj_CO lv a1 a2 a3 a4 a5 a6 a15 R 2 n1 w0 w1 := hk
  exact tw_tree0 hk'.2.2.2.2.2.2.1 hk'.2.2.2.2.2.2.2.2.1 (fun tc' b16 b17 => H _ hk')
theorem tk_tree1 {post : Int32 → St2 → Prop} (hk : tj_KK u R n0 3 w0 w1) (H : ∀ u', tj_KK u' R n0 3 w0 w1 → post 0 u') : wpX_treeLike post u 1 := by
  obtain ⟨lv, qu, ai, st, fo, an, bo, tc, oc, ac, a1, a2, a3, a4, a5, a6, a7, a8, a9, a10, a11, a12, a13, a14, a15, a16, a17, a18, a19, a20, a21, a22, a23, a24, a25⟩ := u
  have hk' : tj_CO lv a1 a2 a3 a4 a5 a6 a15 R n0 3 w0 w1 := hk
  exact tw_tree1 hk'.2.2.2.2.2.2.2.1 hk'.2.2.2.2.2.2.2.2.2.1 (H _ hk')
theorem tj_upd_QA {a4 a5 : Nat → Int32} {q' m k v : Nat} {P Q : Nat → Nat} (h : tj_QA a4 a5 q' m P Q) (hk : ∀ i, i < 4 → m.testBit i = true → 4 * q' + i ≠ k) : tj_QA (upd a4 k 0) (upd (upd (upd a5 (3 * k) (nI (v / 5))) (3 * k + 1) (nI (v % 5))) (3 * k + 2) (-1)) q' m P Q := by
  intro i hi hb
  have hne := hk i hi hb
  obtain ⟨g1, g2, g3, g4, g5, g6, g7⟩ := h i hi hb
  refine ⟨by rw [pk_un hne]; exact g1, ?_, ?_, ?_, g5, g6, g7⟩
  · rw [pk_un (by omega), pk_un (by omega), pk_un (by omega)]; exact g2
  · rw [pk_un (by omega), pk_un (by omega), pk_un (by omega)]; exact g3
  · rw [pk_un (by omega), pk_un (by omega), pk_un (by omega)]; exact g4
theorem tj_new_QA {a4 a5 : Nat → Int32} {q n v : Nat} {P Q : Nat → Nat} (hn : n < 4) (hv : v < 25) (hP : P n = v / 5) (hQ : Q n = v % 5) (hne : v / 5 ≠ v % 5) (h : tj_QA a4 a5 q (2 ^ n - 1) P Q) : tj_QA (upd a4 (4 * q + n) 0) (upd (upd (upd a5 (3 * (4 * q + n)) (nI (v / 5))) (3 * (4 * q + n) + 1) (nI (v % 5))) (3 * (4 * q + n) + 2) (-1)) q (2 ^ (n + 1) - 1) P Q := by
  intro i hi hb
  have hi' : i < n + 1 := (tj_ones (n + 1) (by omega) hi).mp hb
  by_cases e : i = n
  · subst e
    refine ⟨pk_us, ?_, ?_, pk_us, by rw [hP]; omega, by rw [hQ]; omega, by rw [hP, hQ]; exact hne⟩
    · rw [pk_un (by omega), pk_un (by omega), pk_us, hP]
    · rw [pk_un (by omega), pk_us, hQ]
  · exact tj_upd_QA (m := 2 ^ n - 1) h (fun j hj hb2 => by have := (tj_ones n (by omega) hj).mp hb2; omega) i hi ((tj_ones n (by omega) hi).mpr (by omega))
theorem tk_atom0 {post : Int32 → St2 → Prop} {x y z : Int32} {v : Nat} (hk : tj_KK u R n0 n1 w0 w1) (hx : x = 0) (hy : y = 0) (hz : z = nI v) (hv : v < 25) (hn : n0 < 4) (hP : tj_P 0 n0 = v / 5) (hQ : tj_Q 0 n0 = v % 5) (hne : v / 5 ≠ v % 5) (H : ∀ u', tj_KK u' R (n0 + 1) n1 w0 w1 → post (nI (n0 + 1)) u') : wpX_atom post u x y z := by
  obtain ⟨lv, qu, ai, st, fo, an, bo, tc, oc, ac, a1, a2, a3, a4, a5, a6, a7, a8, a9, a10, a11, a12, a13, a14, a15, a16, a17, a18, a19, a20, a21, a22, a23, a24, a25⟩ := u
  have hk' : tj_CO lv a1 a2 a3 a4 a5 a6 a15 R n0 n1 w0 w1 := hk
  obtain ⟨h1, h2, h3, h4, h5, h6, h7, h8, h9, h10, h11, h12, h13⟩ := hk'
  refine tw_atom (q := 0) (n := n0) hx hy hz (by decide) hv h7 hn (H _ ⟨h1, h2, h3, h4, h5, h6, pk_us, by rw [pk_un (by decide)]; exact h8, ?_, ?_, h11, h12, h13⟩)
  · exact tj_new_QA hn hv hP hQ hne h9
  · exact tj_upd_QA h10 (fun i hi _ => by omega)
theorem tk_atom1 {post : Int32 → St2 → Prop} {x y z : Int32} {v : Nat} (hk : tj_KK u R n0 n1 w0 w1) (hx : x = 1) (hy : y = 0) (hz : z = nI v) (hv : v < 25) (hn : n1 < 4) (hn0 : n0 < 5) (hP : tj_P 1 n1 = v / 5) (hQ : tj_Q 1 n1 = v % 5) (hne : v / 5 ≠ v % 5) (H : ∀ u', tj_KK u' R n0 (n1 + 1) w0 w1 → post (nI (n1 + 1)) u') : wpX_atom post u x y z := by
  obtain ⟨lv, qu, ai, st, fo, an, bo, tc, oc, ac, a1, a2, a3, a4, a5, a6, a7, a8, a9, a10, a11, a12, a13, a14, a15, a16, a17, a18, a19, a20, a21, a22, a23, a24, a25⟩ := u
  have hk' : tj_CO lv a1 a2 a3 a4 a5 a6 a15 R n0 n1 w0 w1 := hk
  obtain ⟨h1, h2, h3, h4, h5, h6, h7, h8, h9, h10, h11, h12, h13⟩ := hk'
  refine tw_atom (q := 1) (n := n1) hx hy hz (by decide) hv h8 hn (H _ ⟨h1, h2, h3, h4, h5, h6, by rw [pk_un (by decide)]; exact h7, pk_us, ?_, ?_, h11, h12, h13⟩)
  · exact tj_upd_QA h9 (fun i hi _ => by omega)
  · exact tj_new_QA hn hv hP hQ hne h10
theorem tk_atomF {post : Int32 → St2 → Prop} {x y z : Int32} {v : Nat} (hk : tj_KK u R 4 n1 w0 w1) (hx : x = 0) (hy : y = 0) (hz : z = nI v) (hv : v < 25) (H : post (-2) u) : wpX_atom post u x y z := by
  obtain ⟨lv, qu, ai, st, fo, an, bo, tc, oc, ac, a1, a2, a3, a4, a5, a6, a7, a8, a9, a10, a11, a12, a13, a14, a15, a16, a17, a18, a19, a20, a21, a22, a23, a24, a25⟩ := u
  have hk' : tj_CO lv a1 a2 a3 a4 a5 a6 a15 R 4 n1 w0 w1 := hk
  exact tw_atomF (q := 0) hx hy hz (by decide) hv hk'.2.2.2.2.2.2.1 H
theorem tk_ask0 {post : Int32 → St2 → Prop} {x y : Int32} {v : Nat} (hk : tj_KK u R n0 n1 w0 w1) (hx : x = 0) (hy : y = nI v) (hv : v < 32) (H : ∀ u', tj_KK u' R n0 n1 v w1 → post 1 u') : wpX_ask post u x y := by
  obtain ⟨lv, qu, ai, st, fo, an, bo, tc, oc, ac, a1, a2, a3, a4, a5, a6, a7, a8, a9, a10, a11, a12, a13, a14, a15, a16, a17, a18, a19, a20, a21, a22, a23, a24, a25⟩ := u
  have hk' : tj_CO lv a1 a2 a3 a4 a5 a6 a15 R n0 n1 w0 w1 := hk
  obtain ⟨h1, h2, h3, h4, h5, h6, h7, h8, h9, h10, h11, h12, h13⟩ := hk'
  exact tw_ask (q := 0) hx hy (by decide) hv (H _ ⟨h1, h2, h3, h4, h5, h6, h7, h8, h9, h10, pk_us, by rw [pk_un (by decide)]; exact h12, h13⟩)
theorem tk_ask1 {post : Int32 → St2 → Prop} {x y : Int32} {v : Nat} (hk : tj_KK u R n0 n1 w0 w1) (hx : x = 1) (hy : y = nI v) (hv : v < 32) (H : ∀ u', tj_KK u' R n0 n1 w0 v → post 1 u') : wpX_ask post u x y := by
  obtain ⟨lv, qu, ai, st, fo, an, bo, tc, oc, ac, a1, a2, a3, a4, a5, a6, a7, a8, a9, a10, a11, a12, a13, a14, a15, a16, a17, a18, a19, a20, a21, a22, a23, a24, a25⟩ := u
  have hk' : tj_CO lv a1 a2 a3 a4 a5 a6 a15 R n0 n1 w0 w1 := hk
  obtain ⟨h1, h2, h3, h4, h5, h6, h7, h8, h9, h10, h11, h12, h13⟩ := hk'
  exact tw_ask (q := 1) hx hy (by decide) hv (H _ ⟨h1, h2, h3, h4, h5, h6, h7, h8, h9, h10, by rw [pk_un (by decide)]; exact h11, pk_us, h13⟩)
theorem tk_ask32 {post : Int32 → St2 → Prop} (H : post 0 u) : wpX_ask post u 1 32 := by
  obtain ⟨lv, qu, ai, st, fo, an, bo, tc, oc, ac, a1, a2, a3, a4, a5, a6, a7, a8, a9, a10, a11, a12, a13, a14, a15, a16, a17, a18, a19, a20, a21, a22, a23, a24, a25⟩ := u
  exact tw_ask32 H
theorem tk_cut {post : Int32 → St2 → Prop} (hk : tj_KK u R 4 n1 w0 w1) (H : ∀ u', tj_KK u' R 3 n1 w0 w1 → post (nI 3) u') : wpX_cut post u 0 3 := by
  obtain ⟨lv, qu, ai, st, fo, an, bo, tc, oc, ac, a1, a2, a3, a4, a5, a6, a7, a8, a9, a10, a11, a12, a13, a14, a15, a16, a17, a18, a19, a20, a21, a22, a23, a24, a25⟩ := u
  have hk' : tj_CO lv a1 a2 a3 a4 a5 a6 a15 R 4 n1 w0 w1 := hk
  obtain ⟨h1, h2, h3, h4, h5, h6, h7, h8, h9, h10, h11, h12, h13⟩ := hk'
  exact tw_cut h7 (H _ ⟨h1, h2, h3, h4, h5, h6, pk_us, by rw [pk_un (by decide)]; exact h8, tj_QA_sub h9 (by decide +kernel), h10, h11, h12, h13⟩)
theorem tk_cutB {post : Int32 → St2 → Prop} (hk : tj_KK u R 3 n1 w0 w1) (H : post (-1) u) : wpX_cut post u 0 4 := by
  obtain ⟨lv, qu, ai, st, fo, an, bo, tc, oc, ac, a1, a2, a3, a4, a5, a6, a7, a8, a9, a10, a11, a12, a13, a14, a15, a16, a17, a18, a19, a20, a21, a22, a23, a24, a25⟩ := u
  have hk' : tj_CO lv a1 a2 a3 a4 a5 a6 a15 R 3 n1 w0 w1 := hk
  exact tw_cutB hk'.2.2.2.2.2.2.1 H
theorem tk_rows0 {post : Int32 → Prop} (hk : tj_KK u R n0 n1 w0 w1) (H : post (nI (tj_cnt R 25))) : wpX_rows post u 0 := by
  obtain ⟨lv, qu, ai, st, fo, an, bo, tc, oc, ac, a1, a2, a3, a4, a5, a6, a7, a8, a9, a10, a11, a12, a13, a14, a15, a16, a17, a18, a19, a20, a21, a22, a23, a24, a25⟩ := u
  have hk' : tj_CO lv a1 a2 a3 a4 a5 a6 a15 R n0 n1 w0 w1 := hk
  refine br_f (by decide) (br_t (by decide) ⟨pk_in 0 3 (by decide), ek_v (P := post) ?_ H⟩)
  rw [sb_cl0]
  exact hk'.2.2.2.2.1
theorem tk_rows1 {post : Int32 → Prop} (hk : tj_KK u R n0 n1 w0 w1) (H : post 0) : wpX_rows post u 1 := by
  obtain ⟨lv, qu, ai, st, fo, an, bo, tc, oc, ac, a1, a2, a3, a4, a5, a6, a7, a8, a9, a10, a11, a12, a13, a14, a15, a16, a17, a18, a19, a20, a21, a22, a23, a24, a25⟩ := u
  have hk' : tj_CO lv a1 a2 a3 a4 a5 a6 a15 R n0 n1 w0 w1 := hk
  refine br_f (by decide) (br_t (by decide) ⟨pk_in 1 3 (by decide), ek_v (P := post) ?_ H⟩)
  exact hk'.2.2.2.2.2.1
theorem tk_rows3 {post : Int32 → Prop} (H : post (-1)) : wpX_rows post u 3 := by
  obtain ⟨lv, qu, ai, st, fo, an, bo, tc, oc, ac, a1, a2, a3, a4, a5, a6, a7, a8, a9, a10, a11, a12, a13, a14, a15, a16, a17, a18, a19, a20, a21, a22, a23, a24, a25⟩ := u
  exact br_f (by decide) (br_f (by decide) H)
/-- a row is added: rows as a word -/
theorem tj_cnt_put {p p' : Nat → Bool} {k : Nat} (hk : p k = false) (hk' : p' k = true) (h : ∀ j, j ≠ k → p' j = p j) : ∀ n, k < n → tj_cnt p' n = tj_cnt p n + 1 := by
  intro n
  induction n with
  | zero => intro h; exact absurd h (Nat.not_lt_zero _)
  | succ n ih =>
    intro hn
    by_cases e : k = n
    · subst e
      rw [tj_cnt_t hk', tj_cnt_f hk, tj_cnt_congr (p := p') (q := p) (fun j hj => h j (by omega))]
    · have h1 := ih (by omega)
      show tj_cnt p' n + (if p' n = true then 1 else 0) = tj_cnt p n + (if p n = true then 1 else 0) + 1
      rw [h n (by omega)]
      omega
theorem tk_add {post : Int32 → St2 → Prop} {x y m : Int32} {row : Nat} (hk : tj_KK u (tj_b m) n0 n1 w0 w1) (hx : x = 0) (hy : y = nI row) (hrow : row < 25)
    (H0 : tj_b m row = true → post 0 u) (HF : tj_b m row = false → tj_cnt (tj_b m) 25 = 16 → post (-2) u) (H1 : tj_b m row = false → tj_cnt (tj_b m) 25 < 16 → tj_cnt (tj_b (m ||| ((1 : Int32) <<< (nI row &&& 31)))) 25 = tj_cnt (tj_b m) 25 + 1 → ∀ u', tj_KK u' (tj_b (m ||| ((1 : Int32) <<< (nI row &&& 31)))) n0 n1 w0 w1 → post 1 u') : wpX_add post u x y := by
  obtain ⟨lv, qu, ai, st, fo, an, bo, tc, oc, ac, a1, a2, a3, a4, a5, a6, a7, a8, a9, a10, a11, a12, a13, a14, a15, a16, a17, a18, a19, a20, a21, a22, a23, a24, a25⟩ := u
  have hk' : tj_CO lv a1 a2 a3 a4 a5 a6 a15 (tj_b m) n0 n1 w0 w1 := hk
  obtain ⟨h1, h2, h3, h4, h5, h6, h7, h8, h9, h10, h11, h12, h13⟩ := hk'
  refine tw_add (R := tj_b m) hx hy hrow (h2 row hrow) h5 h4 H0 HF (fun z l => ?_)
  have hbit : ∀ j, j < 32 → tj_b (m ||| ((1 : Int32) <<< (nI row &&& 31))) j = (tj_b m j || decide (j = row)) := fun j hj => by rw [tj_or, tj_shl1 row (by omega) j hj]
  have hcnt : tj_cnt (tj_b (m ||| ((1 : Int32) <<< (nI row &&& 31)))) 25 = tj_cnt (tj_b m) 25 + 1 := by
    have e : tj_cnt (tj_b (m ||| ((1 : Int32) <<< (nI row &&& 31)))) 25 = tj_cnt (fun j => tj_b m j || decide (j = row)) 25 := tj_cnt_congr (fun j hj => hbit j (by omega))
    rw [e]
    refine tj_cnt_put (k := row) z (by rw [decide_eq_true rfl, Bool.or_true]) (fun j hj => by rw [decide_eq_false hj, Bool.or_false]) 25 hrow
  refine H1 z l hcnt _ ⟨h1, fun j hj => ?_, fun k k1 k2 => by rw [pk_uLn (by omega)]; exact h3 k k1 k2, by omega, by rw [pk_us, hcnt], by rw [pk_un (by decide)]; exact h6, h7, h8, h9, h10, h11, h12, h13⟩
  rw [pk_uLs, tj_hor _ (by omega), hbit j (by omega), h2 j hj]
theorem tk_remove {post : Int32 → St2 → Prop} {x y : Int32} {row : Nat} (hk : tj_KK u R n0 n1 w0 w1) (hx : x = 0) (hy : y = nI row) (hrow : row < 25) (H : ∀ u', post (if R row = true then 1 else 0) u') : wpX_remove post u x y := by
  obtain ⟨lv, qu, ai, st, fo, an, bo, tc, oc, ac, a1, a2, a3, a4, a5, a6, a7, a8, a9, a10, a11, a12, a13, a14, a15, a16, a17, a18, a19, a20, a21, a22, a23, a24, a25⟩ := u
  have hk' : tj_CO lv a1 a2 a3 a4 a5 a6 a15 R n0 n1 w0 w1 := hk
  exact tw_remove hx hy hrow (hk'.2.1 row hrow) H
theorem tk_removeB {post : Int32 → St2 → Prop} (H : post (-1) u) : wpX_remove post u 0 25 := by
  obtain ⟨lv, qu, ai, st, fo, an, bo, tc, oc, ac, a1, a2, a3, a4, a5, a6, a7, a8, a9, a10, a11, a12, a13, a14, a15, a16, a17, a18, a19, a20, a21, a22, a23, a24, a25⟩ := u
  exact tw_removeB H
theorem tk_level1 {post : Int32 → St2 → Prop} (H : ∀ u', post 1 u') : wpX_level post u 1 := by
  obtain ⟨lv, qu, ai, st, fo, an, bo, tc, oc, ac, a1, a2, a3, a4, a5, a6, a7, a8, a9, a10, a11, a12, a13, a14, a15, a16, a17, a18, a19, a20, a21, a22, a23, a24, a25⟩ := u
  exact br_f (by decide) (br_t (by decide) (H _))
theorem tk_level3 {post : Int32 → St2 → Prop} (H : ∀ u', post 0 u') : wpX_level post u 3 := by
  obtain ⟨lv, qu, ai, st, fo, an, bo, tc, oc, ac, a1, a2, a3, a4, a5, a6, a7, a8, a9, a10, a11, a12, a13, a14, a15, a16, a17, a18, a19, a20, a21, a22, a23, a24, a25⟩ := u
  exact br_f (by decide) (br_f (by decide) (H _))
end
end
section
theorem tj_code5 (t : Nat → Nat) : tj_code 5 t 5 = 5 * t 0 + t 2 := by
  rw [tj_code_f (by decide), tj_code_f (by decide), tj_code_t (by decide), tj_code_f (by decide), tj_code_t (by decide)]
  show 5 * (5 * 0 + t 0) + t 2 = _
  omega
theorem tj_code0 (t : Nat → Nat) : tj_code 0 t 5 = 0 := by
  rw [tj_code_f (by decide), tj_code_f (by decide), tj_code_f (by decide), tj_code_f (by decide), tj_code_f (by decide)]
  rfl
/-- some b below n lies between a and c -/
def tj_mb (R : Nat → Bool) (a c : Nat) : Nat → Bool
  | 0 => false
  | b + 1 => tj_mb R a c b || (R (5 * a + b) && R (5 * b + c))
theorem tj_mb_iff (R : Nat → Bool) (a c : Nat) : ∀ n, tj_mb R a c n = true ↔ ∃ b, b < n ∧ R (5 * a + b) = true ∧ R (5 * b + c) = true := by
  intro n
  induction n with
  | zero =>
    constructor
    · intro h; exact absurd (show false = true from h) (by decide)
    · rintro ⟨b, hb, _⟩; exact absurd hb (Nat.not_lt_zero _)
  | succ n ih =>
    show (tj_mb R a c n || (R (5 * a + n) && R (5 * n + c))) = true ↔ _
    rw [Bool.or_eq_true, Bool.and_eq_true, ih]
    constructor
    · rintro (⟨b, h1, h2⟩ | h)
      · exact ⟨b, by omega, h2⟩
      · exact ⟨n, by omega, h⟩
    · rintro ⟨b, h1, h2⟩
      by_cases e : b = n
      · rw [e] at h2; exact Or.inr h2
      · exact Or.inl ⟨b, by omega, h2⟩
def tj_met (R : Nat → Bool) (k : Nat) : Bool := tj_mb R (k / 5) (k % 5) 5
def tj_cir (R : Nat → Bool) (k : Nat) : Bool := tj_met R k && R (5 * (k % 5) + k / 5)
theorem tj_met_iff (R : Nat → Bool) (k : Nat) : tj_met R k = true ↔ ∃ b, b < 5 ∧ R (5 * (k / 5) + b) = true ∧ R (5 * b + k % 5) = true := tj_mb_iff R _ _ 5
theorem tj_RT_mk {m : Nat} {P Q : Nat → Nat} {R : Nat → Bool} {t : Nat → Nat} (ht : ∀ v, v < 5 → t v < 5) (h0 : m.testBit 0 = true → R (5 * t (P 0) + t (Q 0)) = true) (h1 : m.testBit 1 = true → R (5 * t (P 1) + t (Q 1)) = true) (h2 : m.testBit 2 = true → R (5 * t (P 2) + t (Q 2)) = true) (h3 : m.testBit 3 = true → R (5 * t (P 3) + t (Q 3)) = true) : tj_RT m P Q R t := by
  refine ⟨ht, fun i hi hb => ?_⟩
  rcases (show i = 0 ∨ i = 1 ∨ i = 2 ∨ i = 3 by omega) with e | e | e | e
  · subst e; exact h0 hb
  · subst e; exact h1 hb
  · subst e; exact h2 hb
  · subst e; exact h3 hb
/-- an assignment by its four first values -/
def tj_t4 (a b c d : Nat) : Nat → Nat := fun v => if v = 0 then a else if v = 1 then b else if v = 2 then c else if v = 3 then d else 0
theorem tj_t4_lt {a b c d : Nat} (ha : a < 5) (hb : b < 5) (hc : c < 5) (hd : d < 5) : ∀ v, v < 5 → tj_t4 a b c d v < 5 := by
  intro v _
  unfold tj_t4
  split
  · exact ha
  · split
    · exact hb
    · split
      · exact hc
      · split
        · exact hd
        · decide
/-- question 0 with 2 or 3 atoms asks for the pairs -/
theorem tj_q0 {R : Nat → Bool} {n k : Nat} (hn : n = 2 ∨ n = 3) : (∃ t, tj_RT (2 ^ n - 1) (tj_P 0) (tj_Q 0) R t ∧ tj_code 5 t 5 = k) ↔ (k < 25 ∧ tj_met R k = true) := by
  constructor
  · rintro ⟨t, ⟨ht, h⟩, hc⟩
    rw [tj_code5] at hc
    have t0 := ht 0 (by decide)
    have t1 := ht 1 (by decide)
    have t2 := ht 2 (by decide)
    have b0 : (2 ^ n - 1).testBit 0 = true ∧ (2 ^ n - 1).testBit 1 = true := by
      rcases hn with e | e
      · subst e; decide
      · subst e; decide
    have r0 : R (5 * t 0 + t 1) = true := h 0 (by decide) b0.1
    have r1 : R (5 * t 1 + t 2) = true := h 1 (by decide) b0.2
    refine ⟨by omega, (tj_met_iff R k).mpr ⟨t 1, t1, ?_, ?_⟩⟩
    · rw [show k / 5 = t 0 by omega]; exact r0
    · rw [show k % 5 = t 2 by omega]; exact r1
  · rintro ⟨hk, hm⟩
    obtain ⟨b, hb, r0, r1⟩ := (tj_met_iff R k).mp hm
    refine ⟨tj_t4 (k / 5) b (k % 5) b, tj_RT_mk (tj_t4_lt (by omega) hb (by omega) hb) (fun _ => r0) (fun _ => r1) (fun _ => r0) (fun _ => r0), ?_⟩
    rw [tj_code5]
    show 5 * (k / 5) + k % 5 = k
    omega
/-- question 1 asks for the circles -/
theorem tj_q1 {R : Nat → Bool} {k : Nat} : (∃ t, tj_RT (2 ^ 3 - 1) (tj_P 1) (tj_Q 1) R t ∧ tj_code 5 t 5 = k) ↔ (k < 25 ∧ tj_cir R k = true) := by
  unfold tj_cir
  rw [Bool.and_eq_true]
  constructor
  · rintro ⟨t, ⟨ht, h⟩, hc⟩
    rw [tj_code5] at hc
    have t0 := ht 0 (by decide)
    have t1 := ht 1 (by decide)
    have t2 := ht 2 (by decide)
    have r0 : R (5 * t 0 + t 1) = true := h 0 (by decide) (by decide)
    have r1 : R (5 * t 1 + t 2) = true := h 1 (by decide) (by decide)
    have r2 : R (5 * t 2 + t 0) = true := h 2 (by decide) (by decide)
    refine ⟨by omega, (tj_met_iff R k).mpr ⟨t 1, t1, ?_, ?_⟩, ?_⟩
    · rw [show k / 5 = t 0 by omega]; exact r0
    · rw [show k % 5 = t 2 by omega]; exact r1
    · rw [show k / 5 = t 0 by omega, show k % 5 = t 2 by omega]; exact r2
  · rintro ⟨hk, hm, r2⟩
    obtain ⟨b, hb, r0, r1⟩ := (tj_met_iff R k).mp hm
    refine ⟨tj_t4 (k / 5) b (k % 5) 0, tj_RT_mk (tj_t4_lt (by omega) hb (by omega) (by decide)) (fun _ => r0) (fun _ => r1) (fun _ => r2) (fun z => absurd z (by decide)), ?_⟩
    rw [tj_code5]
    show 5 * (k / 5) + k % 5 = k
    omega
section
variable {B M : Nat → Bool}
theorem tj_Blo (hB : ∀ k, k < 3136 → (B k = true ↔ (k < 25 ∧ M k = true))) {n : Nat} (hn : n ≤ 25) : tj_cnt B n = tj_cnt M n := by
  refine tj_cnt_congr (fun j hj => ?_)
  have h := hB j (by omega)
  cases h1 : B j
  · cases h2 : M j
    · rfl
    · rw [h.mpr ⟨by omega, h2⟩] at h1; exact absurd h1 (by decide)
  · exact (h.mp h1).2.symm
theorem tj_Bhi (hB : ∀ k, k < 3136 → (B k = true ↔ (k < 25 ∧ M k = true))) {n : Nat} (hn : 25 ≤ n) (hn2 : n ≤ 3136) : tj_cnt B n = tj_cnt M 25 := by
  rw [tj_cnt_tail hn (fun j h1 h2 => ?_), tj_Blo hB (Nat.le_refl _)]
  cases h3 : B j
  · rfl
  · have := ((hB j (by omega)).mp h3).1; omega
theorem tj_ans_yes (hB : ∀ k, k < 3136 → (B k = true ↔ (k < 25 ∧ M k = true))) {ac : Nat} {r : Int32} (hac : ac < 25) (hM : M ac = true) (h : (∃ a, a < 3125 ∧ B a = true ∧ tj_cnt B a = tj_cnt M ac ∧ r = nI a) ∨ (tj_cnt B 3125 ≤ tj_cnt M ac ∧ r = -3)) : r = nI ac := by
  rcases h with ⟨a, h1, h2, h3, h4⟩ | ⟨h1, _⟩
  · obtain ⟨g1, g2⟩ := (hB a (by omega)).mp h2
    rw [tj_Blo hB (by omega)] at h3
    rw [h4, tj_cnt_inj g2 hM h3]
  · rw [tj_Bhi hB (by decide) (by decide)] at h1
    have := tj_cnt_lt hac hM
    omega
theorem tj_ans_no (hB : ∀ k, k < 3136 → (B k = true ↔ (k < 25 ∧ M k = true))) {r : Int32} (h : (∃ a, a < 3125 ∧ B a = true ∧ tj_cnt B a = tj_cnt M 25 ∧ r = nI a) ∨ (tj_cnt B 3125 ≤ tj_cnt M 25 ∧ r = -3)) : r = -3 := by
  rcases h with ⟨a, h1, h2, h3, h4⟩ | ⟨_, h⟩
  · obtain ⟨g1, g2⟩ := (hB a (by omega)).mp h2
    rw [tj_Blo hB (by omega)] at h3
    have := tj_cnt_lt g1 g2
    omega
  · exact h
theorem tj_often (hB : ∀ k, k < 3136 → (B k = true ↔ (k < 25 ∧ M k = true))) (p : Nat) : tj_cnt (fun a => B a && decide (a % 5 = p)) 3125 = tj_cnt (fun a => M a && decide (a % 5 = p)) 25 := by
  rw [tj_cnt_tail (show 25 ≤ 3125 by decide) (fun j h1 h2 => ?_)]
  · refine tj_cnt_congr (fun j hj => ?_)
    have h := hB j (by omega)
    have e : B j = M j := by
      cases h1 : B j
      · cases h2 : M j
        · rfl
        · rw [h.mpr ⟨hj, h2⟩] at h1; exact absurd h1 (by decide)
      · exact (h.mp h1).2.symm
    show (B j && _) = (M j && _)
    rw [e]
  · show (B j && _) = false
    cases h3 : B j
    · rfl
    · have := ((hB j (by omega)).mp h3).1; omega
theorem tj_cnt_pos {p : Nat → Bool} {n : Nat} : 0 < tj_cnt p n ↔ ∃ k, k < n ∧ p k = true := by
  constructor
  · intro h
    obtain ⟨h1, h2, h3⟩ := tj_nth_spec p n 0 h
    exact ⟨_, h1, h2⟩
  · rintro ⟨k, h1, h2⟩
    have := tj_cnt_lt h1 h2
    omega
theorem tj_B0 {E : Prop} (hB : ∀ k, k < 3136 → (B k = true ↔ (k = 0 ∧ E))) : (E → tj_cnt B 3136 = 1) ∧ (¬ E → tj_cnt B 3136 = 0) := by
  have e : tj_cnt B 3136 = tj_cnt B 1 := tj_cnt_tail (by decide) (fun j h1 h2 => by
    cases h3 : B j
    · rfl
    · have := ((hB j h2).mp h3).1; omega)
  rw [e]
  constructor
  · intro h
    rw [tj_cnt_t ((hB 0 (by decide)).mpr ⟨rfl, h⟩)]
    rfl
  · intro h
    rw [tj_cnt_f (by
      cases h3 : B 0
      · rfl
      · exact absurd ((hB 0 (by decide)).mp h3).2 h)]
    rfl
end
theorem tj_q00 {R : Nat → Bool} {k : Nat} : (∃ t, tj_RT (2 ^ 3 - 1) (tj_P 0) (tj_Q 0) R t ∧ tj_code 0 t 5 = k) ↔ (k = 0 ∧ 0 < tj_cnt (tj_met R) 25) := by
  rw [tj_cnt_pos]
  constructor
  · rintro ⟨t, h, hc⟩
    rw [tj_code0] at hc
    exact ⟨hc.symm, _, (tj_q0 (R := R) (n := 3) (Or.inr rfl)).mp ⟨t, h, rfl⟩⟩
  · rintro ⟨hk, j, h1, h2⟩
    obtain ⟨t, h, _⟩ := (tj_q0 (R := R) (n := 3) (k := j) (Or.inr rfl)).mpr ⟨h1, h2⟩
    exact ⟨t, h, by rw [tj_code0, hk]⟩
theorem tj_q10 {R : Nat → Bool} {k : Nat} : (∃ t, tj_RT (2 ^ 3 - 1) (tj_P 1) (tj_Q 1) R t ∧ tj_code 0 t 5 = k) ↔ (k = 0 ∧ 0 < tj_cnt (tj_cir R) 25) := by
  rw [tj_cnt_pos]
  constructor
  · rintro ⟨t, h, hc⟩
    rw [tj_code0] at hc
    exact ⟨hc.symm, _, (tj_q1 (R := R)).mp ⟨t, h, rfl⟩⟩
  · rintro ⟨hk, j, h1, h2⟩
    obtain ⟨t, h, _⟩ := (tj_q1 (R := R) (k := j)).mpr ⟨h1, h2⟩
    exact ⟨t, h, by rw [tj_code0, hk]⟩
/-! ===== rows in use ===== -/
/-- row j is used by a pair below ac -/
def tj_US (R : Nat → Bool) (ac j : Nat) : Prop := ∃ k, k < ac ∧ ∃ b, b < 5 ∧ R (5 * (k / 5) + b) = true ∧ R (5 * b + k % 5) = true ∧ (j = 5 * (k / 5) + b ∨ j = 5 * b + k % 5)
def tj_UR (R : Nat → Bool) (ac j : Nat) : Prop := ∃ k, k < ac ∧ ∃ b, b < 5 ∧ R (5 * (k / 5) + b) = true ∧ R (5 * b + k % 5) = true ∧ R (5 * (k % 5) + k / 5) = true ∧ (j = 5 * (k / 5) + b ∨ j = 5 * b + k % 5 ∨ j = 5 * (k % 5) + k / 5)
theorem tj_use0 {R : Nat → Bool} {row : Nat} : (∃ i, i < 2 ∧ ∃ t, tj_RT (2 ^ 2 - 1) (tj_P 0) (tj_Q 0) R t ∧ 5 * t (tj_P 0 i) + t (tj_Q 0 i) = row) ↔ tj_US R 25 row := by
  constructor
  · rintro ⟨i, hi, t, ⟨ht, h⟩, hr⟩
    have t0 := ht 0 (by decide)
    have t1 := ht 1 (by decide)
    have t2 := ht 2 (by decide)
    have r0 : R (5 * t 0 + t 1) = true := h 0 (by decide) (by decide)
    have r1 : R (5 * t 1 + t 2) = true := h 1 (by decide) (by decide)
    have e1 : (5 * t 0 + t 2) / 5 = t 0 := by omega
    have e2 : (5 * t 0 + t 2) % 5 = t 2 := by omega
    refine ⟨5 * t 0 + t 2, by omega, t 1, t1, by rw [e1]; exact r0, by rw [e2]; exact r1, ?_⟩
    rw [e1, e2]
    rcases (show i = 0 ∨ i = 1 by omega) with e | e
    · subst e; exact Or.inl hr.symm
    · subst e; exact Or.inr hr.symm
  · rintro ⟨k, hk, b, hb, r0, r1, hj⟩
    have hRT : tj_RT (2 ^ 2 - 1) (tj_P 0) (tj_Q 0) R (tj_t4 (k / 5) b (k % 5) 0) := tj_RT_mk (tj_t4_lt (by omega) hb (by omega) (by decide)) (fun _ => r0) (fun _ => r1) (fun z => absurd z (by decide)) (fun z => absurd z (by decide))
    rcases hj with e | e
    · exact ⟨0, by decide, _, hRT, e.symm⟩
    · exact ⟨1, by decide, _, hRT, e.symm⟩
theorem tj_use1 {R : Nat → Bool} {row : Nat} : (∃ i, i < 3 ∧ ∃ t, tj_RT (2 ^ 3 - 1) (tj_P 1) (tj_Q 1) R t ∧ 5 * t (tj_P 1 i) + t (tj_Q 1 i) = row) ↔ tj_UR R 25 row := by
  constructor
  · rintro ⟨i, hi, t, ⟨ht, h⟩, hr⟩
    have t0 := ht 0 (by decide)
    have t1 := ht 1 (by decide)
    have t2 := ht 2 (by decide)
    have r0 : R (5 * t 0 + t 1) = true := h 0 (by decide) (by decide)
    have r1 : R (5 * t 1 + t 2) = true := h 1 (by decide) (by decide)
    have r2 : R (5 * t 2 + t 0) = true := h 2 (by decide) (by decide)
    have e1 : (5 * t 0 + t 2) / 5 = t 0 := by omega
    have e2 : (5 * t 0 + t 2) % 5 = t 2 := by omega
    refine ⟨5 * t 0 + t 2, by omega, t 1, t1, by rw [e1]; exact r0, by rw [e2]; exact r1, by rw [e1, e2]; exact r2, ?_⟩
    rw [e1, e2]
    rcases (show i = 0 ∨ i = 1 ∨ i = 2 by omega) with e | e | e
    · subst e; exact Or.inl hr.symm
    · subst e; exact Or.inr (Or.inl hr.symm)
    · subst e; exact Or.inr (Or.inr hr.symm)
  · rintro ⟨k, hk, b, hb, r0, r1, r2, hj⟩
    have hRT : tj_RT (2 ^ 3 - 1) (tj_P 1) (tj_Q 1) R (tj_t4 (k / 5) b (k % 5) 0) := tj_RT_mk (tj_t4_lt (by omega) hb (by omega) (by decide)) (fun _ => r0) (fun _ => r1) (fun _ => r2) (fun z => absurd z (by decide))
    rcases hj with e | e | e
    · exact ⟨0, by decide, _, hRT, e.symm⟩
    · exact ⟨1, by decide, _, hRT, e.symm⟩
    · exact ⟨2, by decide, _, hRT, e.symm⟩
theorem tj_idle_eq {m x : Int32} {F : Nat → Bool} {U : Nat → Prop} (hx : ∀ j, j < 25 → (tj_b x j = true ↔ U j)) (hF : ∀ row, row < 25 → tj_b m row = true → (F row = true ↔ U row)) : tj_cnt (fun row => tj_b m row && !F row) 25 = tj_cnt (tj_b (m &&& (x ^^^ (-1)))) 25 := by
  refine tj_cnt_congr (fun j hj => ?_)
  rw [tj_and, tj_not x (show j < 32 by omega)]
  cases hm : tj_b m j
  · rfl
  · have h := (hF j hj hm).trans (hx j hj).symm
    cases h1 : F j
    · cases h2 : tj_b x j
      · rfl
      · rw [h.mpr h2] at h1; exact absurd h1 (by decide)
    · rw [h.mp h1]
/-! ===== frozen relations ===== -/
theorem tj_h_A1 : (∃ t, tj_RT (2 ^ 2 - 1) (tj_P 0) (tj_Q 0) (tj_fz (2 ^ 3 - 1) (tj_P 1) (tj_Q 1)) t ∧ tj_code 5 t 5 = tj_code 5 (fun v => v) 5) ↔ true = true :=
  ⟨fun _ => rfl, fun _ => ⟨tj_t4 0 1 2 1, tj_RT_mk (tj_t4_lt (by decide) (by decide) (by decide) (by decide)) (fun _ => by decide +kernel) (fun _ => by decide +kernel) (fun _ => by decide +kernel) (fun _ => by decide +kernel), by decide +kernel⟩⟩
theorem tj_h_A2 : (∃ t, tj_RT (2 ^ 4 - 1) (tj_P 0) (tj_Q 0) (tj_fz (2 ^ 3 - 1) (tj_P 1) (tj_Q 1)) t ∧ tj_code 5 t 5 = tj_code 5 (fun v => v) 5) ↔ true = true :=
  ⟨fun _ => rfl, fun _ => ⟨tj_t4 0 1 2 1, tj_RT_mk (tj_t4_lt (by decide) (by decide) (by decide) (by decide)) (fun _ => by decide +kernel) (fun _ => by decide +kernel) (fun _ => by decide +kernel) (fun _ => by decide +kernel), by decide +kernel⟩⟩
theorem tj_h_A3 : (∃ t, tj_RT (2 ^ 3 - 1) (tj_P 0) (tj_Q 0) (tj_fz (2 ^ 3 - 1) (tj_P 1) (tj_Q 1)) t ∧ tj_code 0 t 5 = tj_code 0 (fun v => v) 5) ↔ true = true :=
  ⟨fun _ => rfl, fun _ => ⟨tj_t4 0 1 2 1, tj_RT_mk (tj_t4_lt (by decide) (by decide) (by decide) (by decide)) (fun _ => by decide +kernel) (fun _ => by decide +kernel) (fun _ => by decide +kernel) (fun _ => by decide +kernel), by decide +kernel⟩⟩
/-- question 1 in a relation in which 0, 1, 2 make no circle -/
theorem tj_no1 {F : Nat → Bool} (h : F 1 = true → F 7 = true → F 10 = true → False) (hF : ∀ z, z < 25 → F z = true → z = 1 ∨ z = 7 ∨ z = 10 ∨ z = 3) : (∃ t, tj_RT (2 ^ 3 - 1) (tj_P 1) (tj_Q 1) F t ∧ tj_code 5 t 5 = tj_code 5 (fun v => v) 5) ↔ false = true := by
  refine ⟨?_, fun z => absurd z (by decide)⟩
  rintro ⟨t, ⟨ht, hr⟩, hc⟩
  exfalso
  rw [tj_code5, tj_code5] at hc
  have t0 := ht 0 (by decide)
  have t1 := ht 1 (by decide)
  have t2 := ht 2 (by decide)
  have r0 : F (5 * t 0 + t 1) = true := hr 0 (by decide) (by decide)
  have r1 : F (5 * t 1 + t 2) = true := hr 1 (by decide) (by decide)
  have r2 : F (5 * t 2 + t 0) = true := hr 2 (by decide) (by decide)
  have f0 := hF _ (by omega) r0
  have f1 := hF _ (by omega) r1
  have f2 := hF _ (by omega) r2
  have e0 : 5 * t 0 + t 1 = 1 := by omega
  have e1 : 5 * t 1 + t 2 = 7 := by omega
  have e2 : 5 * t 2 + t 0 = 10 := by omega
  rw [e0] at r0
  rw [e1] at r1
  rw [e2] at r2
  exact h r0 r1 r2
theorem tj_no0 {F : Nat → Bool} {m : Nat} (hm : m.testBit 0 = true ∧ m.testBit 1 = true) (h : F 1 = true → False) (hF : ∀ z, z < 25 → F z = true → z = 1 ∨ z = 7 ∨ z = 10 ∨ z = 3) : (∃ t, tj_RT m (tj_P 0) (tj_Q 0) F t ∧ tj_code 5 t 5 = tj_code 5 (fun v => v) 5) ↔ false = true := by
  refine ⟨?_, fun z => absurd z (by decide)⟩
  rintro ⟨t, ⟨ht, hr⟩, hc⟩
  exfalso
  rw [tj_code5, tj_code5] at hc
  have t0 := ht 0 (by decide)
  have t1 := ht 1 (by decide)
  have t2 := ht 2 (by decide)
  have r0 : F (5 * t 0 + t 1) = true := hr 0 (by decide) hm.1
  have r1 : F (5 * t 1 + t 2) = true := hr 1 (by decide) hm.2
  have f0 := hF _ (by omega) r0
  have f1 := hF _ (by omega) r1
  have e0 : 5 * t 0 + t 1 = 1 := by omega
  rw [e0] at r0
  exact h r0
theorem tj_yes0 {F : Nat → Bool} {m : Nat} (h1 : F 1 = true) (h7 : F 7 = true) : (∃ t, tj_RT m (tj_P 0) (tj_Q 0) F t ∧ tj_code 5 t 5 = tj_code 5 (fun v => v) 5) ↔ true = true :=
  ⟨fun _ => rfl, fun _ => ⟨tj_t4 0 1 2 1, tj_RT_mk (tj_t4_lt (by decide) (by decide) (by decide) (by decide)) (fun _ => h1) (fun _ => h7) (fun _ => h1) (fun _ => h1), by decide +kernel⟩⟩
end
section
section
variable {u : St2} {R : Nat → Bool} {n0 n1 w0 w1 : Nat}
theorem tj_F1 : ∀ m, m < 16 → ∀ z, z < 25 → tj_fz m (tj_P 0) (tj_Q 0) z = true → z = 1 ∨ z = 7 ∨ z = 10 ∨ z = 3 := by decide +kernel
theorem tj_F2 : ∀ m, m < 8 → ∀ z, z < 25 → tj_fz m (tj_P 1) (tj_Q 1) z = true → z = 1 ∨ z = 7 ∨ z = 10 ∨ z = 3 := by decide +kernel
theorem tk_sm02 {post : Int32 → St2 → Prop} (hk : tj_KK u R 2 n1 5 w1) (H : ∀ u', tj_KK u' R 2 n1 5 w1 → post 2 u') : wpX_smallest post u 0 := by
  obtain ⟨lv, qu, ai, st, fo, an, bo, tc, oc, ac, a1, a2, a3, a4, a5, a6, a7, a8, a9, a10, a11, a12, a13, a14, a15, a16, a17, a18, a19, a20, a21, a22, a23, a24, a25⟩ := u
  have hk' : tj_CO lv a1 a2 a3 a4 a5 a6 a15 R 2 n1 5 w1 := hk
  have hQ : tj_QQ a3 a4 a5 a6 0 2 5 7 (tj_P 0) (tj_Q 0) := tj_CO_QQ hk' (Or.inl ⟨rfl, rfl, rfl⟩) ⟨by decide, by decide, by decide +kernel⟩
  unfold wpX_smallest
  refine tw_isQ (q := 0) rfl (by decide) (br_f (by decide) (tw_wholeQ (q := 0) rfl hQ (by decide) (br_f (by decide) (tw_allAtoms (q := 0) rfl (by decide) hQ.2.2.2.1 (by decide) ⟨pk_in 0 2 (by decide), nm_r (e' := nI 2) ?_ ⟨3, ?_⟩⟩))))
  · exact hQ.2.2.2.1
  refine tw_sm_skip (kept := 2 ^ 2 - 1) (rest := 2) (i := 0) (th' := 6) hQ (by decide) (by decide) (by decide) (by decide) (by decide +kernel) (by decide +kernel) (by decide) ?_
  refine tw_sm_skip (kept := 2 ^ 2 - 1) (rest := 1) (i := 0 + 1) (th' := 3) hQ (by decide) (by decide) (by decide) (by decide) (by decide +kernel) (by decide +kernel) (by decide) ?_
  exact tw_sm_end (n := 2) (by decide) (by decide) hQ.2.2.2.1 rfl (H _ hk')
theorem tk_sm13 {post : Int32 → St2 → Prop} (hk : tj_KK u R n0 3 w0 5) (H : ∀ u', tj_KK u' R n0 3 w0 5 → post 3 u') : wpX_smallest post u 1 := by
  obtain ⟨lv, qu, ai, st, fo, an, bo, tc, oc, ac, a1, a2, a3, a4, a5, a6, a7, a8, a9, a10, a11, a12, a13, a14, a15, a16, a17, a18, a19, a20, a21, a22, a23, a24, a25⟩ := u
  have hk' : tj_CO lv a1 a2 a3 a4 a5 a6 a15 R n0 3 w0 5 := hk
  have hQ : tj_QQ a3 a4 a5 a6 1 3 5 7 (tj_P 1) (tj_Q 1) := tj_CO_QQ hk' (Or.inr ⟨rfl, rfl, rfl⟩) ⟨by decide, by decide, by decide +kernel⟩
  have hD : tj_DG a15 := hk'.2.2.2.2.2.2.2.2.2.2.2.2
  unfold wpX_smallest
  refine tw_isQ (q := 1) rfl (by decide) (br_f (by decide) (tw_wholeQ (q := 1) rfl hQ (by decide) (br_f (by decide) (tw_allAtoms (q := 1) rfl (by decide) hQ.2.2.2.1 (by decide) ⟨pk_in 1 2 (by decide), nm_r (e' := nI (2 + 1)) ?_ ⟨4, ?_⟩⟩))))
  · exact hQ.2.2.2.1
  refine tw_sm_test (kept := 2 ^ 3 - 1) (rest := 6) (i := 0) (c := 2) (thr := 7) (thk := 7) hk'.1 hQ (by decide) (by decide) (by decide) (by decide) (by decide +kernel) (by decide +kernel) (by decide) ⟨0, by decide, by decide⟩ (by decide +kernel) (by decide +kernel) (by decide) hD (by decide +kernel) false (tj_no1 (by decide +kernel) (tj_F2 6 (by decide))) (fun _ qu' ai' st' fo' an' oc' ac' b1 b7 b8 b9 b10 b15 b18 b19 b20 b21 b22 b23 b24 b25 k1 d1 => ?_) (fun z => absurd z (by decide))
  refine tw_sm_test (kept := 2 ^ 3 - 1) (rest := 5) (i := 0 + 1) (c := 2) (thr := 7) (thk := 7) hk'.1 hQ (by decide) (by decide) (by decide) (by decide) (by decide +kernel) (by decide +kernel) (by decide) ⟨0, by decide, by decide⟩ (by decide +kernel) (by decide +kernel) (by decide) d1 (by decide +kernel) false (tj_no1 (by decide +kernel) (tj_F2 5 (by decide))) (fun _ qu' ai' st' fo' an' oc' ac' b1 b7 b8 b9 b10 b15 b18 b19 b20 b21 b22 b23 b24 b25 k2 d2 => ?_) (fun z => absurd z (by decide))
  refine tw_sm_test (kept := 2 ^ 3 - 1) (rest := 3) (i := 0 + 1 + 1) (c := 2) (thr := 7) (thk := 7) hk'.1 hQ (by decide) (by decide) (by decide) (by decide) (by decide +kernel) (by decide +kernel) (by decide) ⟨0, by decide, by decide⟩ (by decide +kernel) (by decide +kernel) (by decide) d2 (by decide +kernel) false (tj_no1 (by decide +kernel) (tj_F2 3 (by decide))) (fun _ qu' ai' st' fo' an' oc' ac' b1 b7 b8 b9 b10 b15 b18 b19 b20 b21 b22 b23 b24 b25 k3 d3 => ?_) (fun z => absurd z (by decide))
  exact tw_sm_end (n := 3) (by decide) (by decide) hQ.2.2.2.1 rfl (H _ (tj_CO_keep hk' (fun k hk => by rw [k3 k hk, k2 k hk, k1 k hk]) d3))
theorem tk_sm03 {post : Int32 → St2 → Prop} (hk : tj_KK u R 3 n1 5 w1) (H : ∀ u', tj_KK u' R 3 n1 5 w1 → post 2 u') : wpX_smallest post u 0 := by
  obtain ⟨lv, qu, ai, st, fo, an, bo, tc, oc, ac, a1, a2, a3, a4, a5, a6, a7, a8, a9, a10, a11, a12, a13, a14, a15, a16, a17, a18, a19, a20, a21, a22, a23, a24, a25⟩ := u
  have hk' : tj_CO lv a1 a2 a3 a4 a5 a6 a15 R 3 n1 5 w1 := hk
  have hQ : tj_QQ a3 a4 a5 a6 0 3 5 15 (tj_P 0) (tj_Q 0) := tj_CO_QQ hk' (Or.inl ⟨rfl, rfl, rfl⟩) ⟨by decide, by decide, by decide +kernel⟩
  have hD : tj_DG a15 := hk'.2.2.2.2.2.2.2.2.2.2.2.2
  unfold wpX_smallest
  refine tw_isQ (q := 0) rfl (by decide) (br_f (by decide) (tw_wholeQ (q := 0) rfl hQ (by decide) (br_f (by decide) (tw_allAtoms (q := 0) rfl (by decide) hQ.2.2.2.1 (by decide) ⟨pk_in 0 2 (by decide), nm_r (e' := nI (2 + 1)) ?_ ⟨4, ?_⟩⟩))))
  · exact hQ.2.2.2.1
  refine tw_sm_test (kept := 2 ^ 3 - 1) (rest := 6) (i := 0) (c := 2) (thr := 15) (thk := 15) hk'.1 hQ (by decide) (by decide) (by decide) (by decide) (by decide +kernel) (by decide +kernel) (by decide) ⟨0, by decide, by decide⟩ (by decide +kernel) (by decide +kernel) (by decide) hD (by decide +kernel) false (tj_no0 (by decide) (by decide +kernel) (tj_F1 6 (by decide))) (fun _ qu' ai' st' fo' an' oc' ac' b1 b7 b8 b9 b10 b15 b18 b19 b20 b21 b22 b23 b24 b25 k1 d1 => ?_) (fun z => absurd z (by decide))
  refine tw_sm_skip (kept := 2 ^ 3 - 1) (rest := 5) (i := 0 + 1) (th' := 11) hQ (by decide) (by decide) (by decide) (by decide) (by decide +kernel) (by decide +kernel) (by decide) ?_
  refine tw_sm_test (kept := 2 ^ 3 - 1) (rest := 3) (i := 0 + 1 + 1) (c := 2) (thr := 7) (thk := 15) hk'.1 hQ (by decide) (by decide) (by decide) (by decide) (by decide +kernel) (by decide +kernel) (by decide) ⟨0, by decide, by decide⟩ (by decide +kernel) (by decide +kernel) (by decide) d1 (by decide +kernel) true (tj_yes0 (by decide +kernel) (by decide +kernel)) (fun z => absurd z (by decide)) (fun _ qu' ai' st' fo' an' oc' ac' b1 b7 b8 b9 b10 b15 b18 b19 b20 b21 b22 b23 b24 b25 k2 d2 => ?_)
  exact tw_sm_end (n := 3) (by decide) (by decide) hQ.2.2.2.1 rfl (H _ (tj_CO_keep hk' (fun k hk => by rw [k2 k hk, k1 k hk]) d2))
theorem tk_sm04 {post : Int32 → St2 → Prop} (hk : tj_KK u R 4 n1 5 w1) (H : ∀ u', tj_KK u' R 4 n1 5 w1 → post 2 u') : wpX_smallest post u 0 := by
  obtain ⟨lv, qu, ai, st, fo, an, bo, tc, oc, ac, a1, a2, a3, a4, a5, a6, a7, a8, a9, a10, a11, a12, a13, a14, a15, a16, a17, a18, a19, a20, a21, a22, a23, a24, a25⟩ := u
  have hk' : tj_CO lv a1 a2 a3 a4 a5 a6 a15 R 4 n1 5 w1 := hk
  have hQ : tj_QQ a3 a4 a5 a6 0 4 5 15 (tj_P 0) (tj_Q 0) := tj_CO_QQ hk' (Or.inl ⟨rfl, rfl, rfl⟩) ⟨by decide, by decide, by decide +kernel⟩
  have hD : tj_DG a15 := hk'.2.2.2.2.2.2.2.2.2.2.2.2
  unfold wpX_smallest
  refine tw_isQ (q := 0) rfl (by decide) (br_f (by decide) (tw_wholeQ (q := 0) rfl hQ (by decide) (br_f (by decide) (tw_allAtoms (q := 0) rfl (by decide) hQ.2.2.2.1 (by decide) ⟨pk_in 0 2 (by decide), nm_r (e' := nI (3 + 1)) ?_ ⟨5, ?_⟩⟩))))
  · exact hQ.2.2.2.1
  refine tw_sm_test (kept := 2 ^ 4 - 1) (rest := 14) (i := 0) (c := 3) (thr := 15) (thk := 15) hk'.1 hQ (by decide) (by decide) (by decide) (by decide) (by decide +kernel) (by decide +kernel) (by decide) ⟨0, by decide, by decide⟩ (by decide +kernel) (by decide +kernel) (by decide) hD (by decide +kernel) false (tj_no0 (by decide) (by decide +kernel) (tj_F1 14 (by decide))) (fun _ qu' ai' st' fo' an' oc' ac' b1 b7 b8 b9 b10 b15 b18 b19 b20 b21 b22 b23 b24 b25 k1 d1 => ?_) (fun z => absurd z (by decide))
  refine tw_sm_skip (kept := 2 ^ 4 - 1) (rest := 13) (i := 0 + 1) (th' := 11) hQ (by decide) (by decide) (by decide) (by decide) (by decide +kernel) (by decide +kernel) (by decide) ?_
  refine tw_sm_test (kept := 2 ^ 4 - 1) (rest := 11) (i := 0 + 1 + 1) (c := 3) (thr := 15) (thk := 15) hk'.1 hQ (by decide) (by decide) (by decide) (by decide) (by decide +kernel) (by decide +kernel) (by decide) ⟨0, by decide, by decide⟩ (by decide +kernel) (by decide +kernel) (by decide) d1 (by decide +kernel) true (tj_yes0 (by decide +kernel) (by decide +kernel)) (fun z => absurd z (by decide)) (fun _ qu' ai' st' fo' an' oc' ac' b1 b7 b8 b9 b10 b15 b18 b19 b20 b21 b22 b23 b24 b25 k2 d2 => ?_)
  refine tw_sm_test (kept := 11) (rest := 3) (i := 0 + 1 + 1 + 1) (c := 2) (thr := 7) (thk := 15) hk'.1 hQ (by decide) (by decide) (by decide) (by decide) (by decide +kernel) (by decide +kernel) (by decide) ⟨0, by decide, by decide⟩ (by decide +kernel) (by decide +kernel) (by decide) d2 (by decide +kernel) true (tj_yes0 (by decide +kernel) (by decide +kernel)) (fun z => absurd z (by decide)) (fun _ qu' ai' st' fo' an' oc' ac' b1 b7 b8 b9 b10 b15 b18 b19 b20 b21 b22 b23 b24 b25 k3 d3 => ?_)
  exact tw_sm_end (n := 4) (by decide) (by decide) hQ.2.2.2.1 rfl (H _ (tj_CO_keep hk' (fun k hk => by rw [k3 k hk, k2 k hk, k1 k hk]) d3))
end
end
section
section
variable {lv qu ai st fo an bo tc oc ac : Int32} {a1 : Nat → Int64} {a2 : Nat → Int32} {a3 : Nat → Int32} {a4 : Nat → Int32} {a5 : Nat → Int32} {a6 : Nat → Int32} {a7 : Nat → Int32} {a8 : Nat → Int32} {a9 : Nat → Int32} {a10 : Nat → Int64} {a11 : Nat → Int64} {a12 : Nat → Int64} {a13 : Nat → Int32} {a14 : Nat → Int32} {a15 : Nat → Int32} {a16 : Nat → Int32} {a17 : Nat → Int32} {a18 : Nat → Int32} {a19 : Nat → Int32} {a20 : Nat → Int32} {a21 : Nat → Int32} {a22 : Nat → Int32} {a23 : Nat → Int32} {a24 : Nat → Int32} {a25 : Nat → Int32}
variable {post : Int32 → St0 → Prop} {mc ms kc ks : Nat}
theorem tl_row {po : Int32 → Prop} {x p1 p2 : Int32} {a b : Nat} (h1 : p1 = nI a) (h2 : p2 = nI b) (ha : a < 5) (hb : b < 5) (H1 : tj_b x (5 * a + b) = true → po 1) (H0 : tj_b x (5 * a + b) = false → po 0) : wpL_row po () x p1 p2 := by
  subst h1 h2
  have e : (5 : Int32) * nI a + nI b = nI (5 * a + b) := tj_ix 5 a b
  unfold wpL_row
  rw [e]
  exact ek_if (tj_bo x (by omega)) H1 (fun z => H0 (tj_nt z))
theorem tl_989 {z0 z1 : Int32} (hp : post 1 ()) (h : z1 = z0) : wL_lawOf_989 post mc ms z0 z1 kc ks lv qu ai st fo an bo tc oc ac a1 a2 a3 a4 a5 a6 a7 a8 a9 a10 a11 a12 a13 a14 a15 a16 a17 a18 a19 a20 a21 a22 a23 a24 a25 := by
  unfold wL_lawOf_989
  refine br_t h (tk_removeB (br_t rfl (tk_level1 (fun u' => ?_))))
  obtain ⟨lv, qu, ai, st, fo, an, bo, tc, oc, ac, a1, a2, a3, a4, a5, a6, a7, a8, a9, a10, a11, a12, a13, a14, a15, a16, a17, a18, a19, a20, a21, a22, a23, a24, a25⟩ := u'
  refine br_f (by decide) (tk_level3 (fun u'' => ?_))
  obtain ⟨lv, qu, ai, st, fo, an, bo, tc, oc, ac, a1, a2, a3, a4, a5, a6, a7, a8, a9, a10, a11, a12, a13, a14, a15, a16, a17, a18, a19, a20, a21, a22, a23, a24, a25⟩ := u''
  exact br_t rfl hp
theorem tl_952 {x6 x14 x15 x16 z0 z1 : Int32} {R : Nat → Bool} {a b pairs : Nat} (hp : post 1 ()) (h : z1 = z0) (hk : tj_KK (lv, qu, ai, st, fo, an, bo, tc, oc, ac, a1, a2, a3, a4, a5, a6, a7, a8, a9, a10, a11, a12, a13, a14, a15, a16, a17, a18, a19, a20, a21, a22, a23, a24, a25) R 3 3 5 16) (e6 : x6 = nI pairs) (hpairs : pairs ≤ tj_cnt (tj_met R) 25) (e14 : x14 = nI a) (e15 : x15 = nI b) (ha : a < 5) (hb : b < 5) (hneg : x16 < 0 → R (5 * a + b) = false) (hpos : ¬ x16 < 0 → R (5 * a + b) = true) : wL_lawOf_952 post mc ms x6 x14 x15 x16 z0 z1 kc ks lv qu ai st fo an bo tc oc ac a1 a2 a3 a4 a5 a6 a7 a8 a9 a10 a11 a12 a13 a14 a15 a16 a17 a18 a19 a20 a21 a22 a23 a24 a25 := by
  have hle := tj_cnt_le (tj_met R) 25
  unfold wL_lawOf_952
  refine br_t h (tk_count (q := 0) (n := 3) (w := 5) (th := 15) hk rfl (Or.inl ⟨rfl, rfl, rfl⟩) ⟨by decide, by decide, by decide +kernel⟩ ⟨by decide, by decide +kernel⟩ (fun B hB u' hk' => ?_))
  have hB' : ∀ k, k < 3136 → (B k = true ↔ (k < 25 ∧ tj_met R k = true)) := fun k hk => (hB k hk).trans (tj_q0 (Or.inr rfl))
  have hc : tj_cnt B 3136 = tj_cnt (tj_met R) 25 := tj_Bhi hB' (by decide) (by decide)
  obtain ⟨lv, qu, ai, st, fo, an, bo, tc, oc, ac, a1, a2, a3, a4, a5, a6, a7, a8, a9, a10, a11, a12, a13, a14, a15, a16, a17, a18, a19, a20, a21, a22, a23, a24, a25⟩ := u'
  refine pk_le pairs (tj_cnt B 3136) (fun _ => ?_) (fun z => absurd z (by omega)) e6
  refine tk_remove (row := 5 * a + b) hk' rfl (by rw [e14, e15]; exact tj_ix 5 a b) (by omega) (fun u'' => ?_)
  obtain ⟨lv, qu, ai, st, fo, an, bo, tc, oc, ac, a1, a2, a3, a4, a5, a6, a7, a8, a9, a10, a11, a12, a13, a14, a15, a16, a17, a18, a19, a20, a21, a22, a23, a24, a25⟩ := u''
  refine br_c (fun g => tl_989 hp ?_) (fun g => tl_989 hp ?_)
  · rw [hneg g]; rfl
  · rw [hpos g]; rfl
theorem tl_met_mono {R R' : Nat → Bool} (h : ∀ j, j < 25 → R j = true → R' j = true) : tj_cnt (tj_met R) 25 ≤ tj_cnt (tj_met R') 25 := by
  refine tj_cnt_sub (fun j hj hm => ?_)
  obtain ⟨b, h1, h2, h3⟩ := (tj_met_iff R j).mp hm
  exact (tj_met_iff R' j).mpr ⟨b, h1, h _ (by omega) h2, h _ (by omega) h3⟩
theorem tl_802 {x2 x4 x5 x6 x9 x13 z0 z1 : Int32} (hp : post 1 ()) (h : z1 = z0) (hk : tj_KK (lv, qu, ai, st, fo, an, bo, tc, oc, ac, a1, a2, a3, a4, a5, a6, a7, a8, a9, a10, a11, a12, a13, a14, a15, a16, a17, a18, a19, a20, a21, a22, a23, a24, a25) (tj_b x4) 3 3 0 0) (e5 : x5 = nI (tj_cnt (tj_b x4) 25)) (e6 : x6 = nI (tj_cnt (tj_met (tj_b x4)) 25)) (hx9 : ∀ j, j < 25 → (tj_b x9 j = true ↔ tj_UR (tj_b x4) 25 j)) (e13 : x13 = nI (tj_cnt (tj_b (x4 &&& (x9 ^^^ (-1)))) 25)) : wL_lawOf_802 post mc ms x2 x4 x5 x6 x13 z0 z1 kc ks lv qu ai st fo an bo tc oc ac a1 a2 a3 a4 a5 a6 a7 a8 a9 a10 a11 a12 a13 a14 a15 a16 a17 a18 a19 a20 a21 a22 a23 a24 a25 := by
  have hcle := tj_cnt_le (tj_b x4) 25
  have ok1 : tj_OK 1 3 16 7 := ⟨by decide, by decide, by decide +kernel⟩
  unfold wL_lawOf_802
  refine br_t h (tk_ask1 (v := 16) hk rfl rfl (by decide) (fun u' hk => ?_))
  obtain ⟨lv, qu, ai, st, fo, an, bo, tc, oc, ac, a1, a2, a3, a4, a5, a6, a7, a8, a9, a10, a11, a12, a13, a14, a15, a16, a17, a18, a19, a20, a21, a22, a23, a24, a25⟩ := u'
  refine br_f (by decide) (tk_wholeN (q := 1) (n := 3) (w := 16) (th := 7) hk rfl (Or.inr ⟨rfl, rfl, rfl⟩) ok1 (by decide) (br_t rfl ?_))
  refine tk_countN (q := 1) (n := 3) (w := 16) (th := 7) hk rfl (Or.inr ⟨rfl, rfl, rfl⟩) ok1 (by decide) (br_t rfl ?_)
  refine tk_smallestN (q := 1) (n := 3) (w := 16) (th := 7) hk rfl (Or.inr ⟨rfl, rfl, rfl⟩) ok1 (by decide) (br_t rfl ?_)
  refine tk_tree1 hk (fun u' hk => ?_)
  obtain ⟨lv, qu, ai, st, fo, an, bo, tc, oc, ac, a1, a2, a3, a4, a5, a6, a7, a8, a9, a10, a11, a12, a13, a14, a15, a16, a17, a18, a19, a20, a21, a22, a23, a24, a25⟩ := u'
  refine br_t rfl (tk_idle (q := 1) (n := 3) (w := 16) (th := 7) hk rfl (Or.inr ⟨rfl, rfl, rfl⟩) ok1 (fun F hF u' hk => ?_))
  obtain ⟨lv, qu, ai, st, fo, an, bo, tc, oc, ac, a1, a2, a3, a4, a5, a6, a7, a8, a9, a10, a11, a12, a13, a14, a15, a16, a17, a18, a19, a20, a21, a22, a23, a24, a25⟩ := u'
  refine br_t ?_ (tk_ask32 (br_t rfl ⟨by decide, ?_⟩))
  · rw [e13]
    congr 1
    exact tj_idle_eq hx9 (fun row hr hR => (hF row hr hR).trans tj_use1)
  obtain ⟨j1, hj1, e1⟩ := pk_andE x2 (m := 255) 8 (by decide)
  obtain ⟨j2, hj2, e2⟩ := pk_andE (x2 >>> ((8 : Int32) &&& 31)) (m := 255) 8 (by decide)
  refine nm_r (e' := nI (j1 % 5)) (by rw [e1]; exact pk_rem (a := j1) (d := 5) (by omega) (by decide) (by decide)) ⟨by decide, nm_r (e' := nI (j2 % 5)) (by rw [e2]; exact pk_rem (a := j2) (d := 5) (by omega) (by decide) (by decide)) ?_⟩
  refine tk_ask0 (v := 5) hk rfl rfl (by decide) (fun u' hk => ?_)
  obtain ⟨lv, qu, ai, st, fo, an, bo, tc, oc, ac, a1, a2, a3, a4, a5, a6, a7, a8, a9, a10, a11, a12, a13, a14, a15, a16, a17, a18, a19, a20, a21, a22, a23, a24, a25⟩ := u'
  refine br_f (by decide) ?_
  have ha : j1 % 5 < 5 := Nat.mod_lt _ (by decide)
  have hb : j2 % 5 < 5 := Nat.mod_lt _ (by decide)
  generalize j1 % 5 = a at ha
  generalize j2 % 5 = b at hb
  refine tk_add (row := 5 * a + b) hk rfl (tj_ix 5 a b) (by omega) (fun z => ?_) (fun z l => ?_) (fun z l hc u' hk' => ?_)
  · refine tl_row rfl rfl ha hb (fun _ => br_f (by decide) ?_) (fun z' => by rw [z] at z'; exact absurd z' (by decide))
    exact tl_952 hp rfl hk e6 (Nat.le_refl _) rfl rfl ha hb (fun g => absurd g (by decide)) (fun _ => z)
  · refine tl_row rfl rfl ha hb (fun z' => by rw [z] at z'; exact absurd z' (by decide)) (fun _ => br_t rfl (br_t (by rw [e5, l]; rfl) ?_))
    exact tl_952 hp rfl hk e6 (Nat.le_refl _) rfl rfl ha hb (fun _ => z) (fun g => absurd (by decide) g)
  · obtain ⟨lv, qu, ai, st, fo, an, bo, tc, oc, ac, a1, a2, a3, a4, a5, a6, a7, a8, a9, a10, a11, a12, a13, a14, a15, a16, a17, a18, a19, a20, a21, a22, a23, a24, a25⟩ := u'
    have hbit : ∀ j, j < 32 → tj_b (x4 ||| ((1 : Int32) <<< (nI (5 * a + b) &&& 31))) j = (tj_b x4 j || decide (j = 5 * a + b)) := fun j hj => by rw [tj_or, tj_shl1 _ (by omega) j hj]
    refine tl_row rfl rfl ha hb (fun z' => by rw [z] at z'; exact absurd z' (by decide)) (fun _ => br_t rfl (br_f (by rw [e5]; exact fun g => absurd ((nI_eq (b := 16) (by omega) (by decide)).mp g) (by omega)) ?_))
    refine tl_952 hp rfl hk' e6 (tl_met_mono (fun j hj hR => by rw [hbit j (by omega), hR, Bool.true_or])) rfl rfl ha hb (fun g => absurd g (by decide)) (fun _ => ?_)
    rw [hbit _ (by omega), decide_eq_true rfl, Bool.or_true]
theorem tl_784 {x2 x4 x5 x6 x9 x13 z0 z1 : Int32} (hp : post 1 ()) (h : z1 = z0) (hk : tj_KK (lv, qu, ai, st, fo, an, bo, tc, oc, ac, a1, a2, a3, a4, a5, a6, a7, a8, a9, a10, a11, a12, a13, a14, a15, a16, a17, a18, a19, a20, a21, a22, a23, a24, a25) (tj_b x4) 3 3 0 0) (e5 : x5 = nI (tj_cnt (tj_b x4) 25)) (e6 : x6 = nI (tj_cnt (tj_met (tj_b x4)) 25)) (hx9 : ∀ j, j < 25 → (tj_b x9 j = true ↔ tj_UR (tj_b x4) 25 j)) (e13 : x13 = nI (tj_cnt (tj_b (x4 &&& (x9 ^^^ (-1)))) 25)) : wL_lawOf_784 post mc ms x2 x4 x5 x6 x13 z0 z1 kc ks lv qu ai st fo an bo tc oc ac a1 a2 a3 a4 a5 a6 a7 a8 a9 a10 a11 a12 a13 a14 a15 a16 a17 a18 a19 a20 a21 a22 a23 a24 a25 := by
  have hle := tj_cnt_le (tj_met (tj_b x4)) 25
  unfold wL_lawOf_784
  refine br_t h (tk_count (q := 0) (n := 3) (w := 0) (th := 15) hk rfl (Or.inl ⟨rfl, rfl, rfl⟩) ⟨by decide, by decide, by decide +kernel⟩ ⟨by decide, by decide +kernel⟩ (fun B hB u' hk' => ?_))
  have hB' := tj_B0 (B := B) (fun k hk => (hB k hk).trans tj_q00)
  obtain ⟨lv, qu, ai, st, fo, an, bo, tc, oc, ac, a1, a2, a3, a4, a5, a6, a7, a8, a9, a10, a11, a12, a13, a14, a15, a16, a17, a18, a19, a20, a21, a22, a23, a24, a25⟩ := u'
  refine pk_le (tj_cnt (tj_met (tj_b x4)) 25) 0 (fun z => ?_) (fun z => ?_) e6
  · exact tl_802 (x9 := x9) hp (by rw [hB'.2 (by omega)]; rfl) hk' e5 e6 hx9 e13
  · exact tl_802 (x9 := x9) hp (by rw [hB'.1 z]; rfl) hk' e5 e6 hx9 e13
end
end
section
section
variable {lv qu ai st fo an bo tc oc ac : Int32} {a1 : Nat → Int64} {a2 : Nat → Int32} {a3 : Nat → Int32} {a4 : Nat → Int32} {a5 : Nat → Int32} {a6 : Nat → Int32} {a7 : Nat → Int32} {a8 : Nat → Int32} {a9 : Nat → Int32} {a10 : Nat → Int64} {a11 : Nat → Int64} {a12 : Nat → Int64} {a13 : Nat → Int32} {a14 : Nat → Int32} {a15 : Nat → Int32} {a16 : Nat → Int32} {a17 : Nat → Int32} {a18 : Nat → Int32} {a19 : Nat → Int32} {a20 : Nat → Int32} {a21 : Nat → Int32} {a22 : Nat → Int32} {a23 : Nat → Int32} {a24 : Nat → Int32} {a25 : Nat → Int32}
variable {post : Int32 → St0 → Prop} {mc ms kc ks : Nat}
theorem tl_ok02 : tj_OK 0 2 5 7 := ⟨by decide, by decide, by decide +kernel⟩
theorem tl_ok03 : tj_OK 0 3 5 15 := ⟨by decide, by decide, by decide +kernel⟩
theorem tl_ok04 : tj_OK 0 4 5 15 := ⟨by decide, by decide, by decide +kernel⟩
theorem tl_ok030 : tj_OK 0 3 0 15 := ⟨by decide, by decide, by decide +kernel⟩
theorem tl_ok13 : tj_OK 1 3 5 7 := ⟨by decide, by decide, by decide +kernel⟩
theorem tl_ok130 : tj_OK 1 3 0 7 := ⟨by decide, by decide, by decide +kernel⟩
theorem tl_wh7 : tj_WH 5 7 := ⟨by decide, by decide +kernel⟩
theorem tl_wh15 : tj_WH 5 15 := ⟨by decide, by decide +kernel⟩
theorem tl_wh07 : tj_WH 0 7 := ⟨by decide, by decide +kernel⟩
theorem tl_wh015 : tj_WH 0 15 := ⟨by decide, by decide +kernel⟩
/-- behind the loops -/
theorem tl_502x {x2 x4 x5 x6 x7 x8 x9 : Int32} {f : Nat} (hp : post 1 ()) (hk : tj_KK (lv, qu, ai, st, fo, an, bo, tc, oc, ac, a1, a2, a3, a4, a5, a6, a7, a8, a9, a10, a11, a12, a13, a14, a15, a16, a17, a18, a19, a20, a21, a22, a23, a24, a25) (tj_b x4) 2 3 5 5) (e5 : x5 = nI (tj_cnt (tj_b x4) 25)) (e6 : x6 = nI (tj_cnt (tj_met (tj_b x4)) 25)) (e7 : x7 = nI (tj_cnt (tj_cir (tj_b x4)) 25)) (hx8 : ∀ j, j < 25 → (tj_b x8 j = true ↔ tj_US (tj_b x4) 25 j)) (hx9 : ∀ j, j < 25 → (tj_b x9 j = true ↔ tj_UR (tj_b x4) 25 j)) : wL_lawOf_502 post mc ms x2 x4 x5 x6 x7 x8 x9 kc ks lv qu ai st fo an bo tc oc ac a1 a2 a3 a4 a5 a6 a7 a8 a9 a10 a11 a12 a13 a14 a15 a16 a17 a18 a19 a20 a21 a22 a23 a24 a25 (f + 1) (nI (tj_cnt (tj_b (x4 &&& (x8 ^^^ (-1)))) 25)) (nI (tj_cnt (tj_b (x4 &&& (x9 ^^^ (-1)))) 25)) (nI 25) := by
  have hmle := tj_cnt_le (tj_met (tj_b x4)) 25
  have hcle := tj_cnt_le (tj_cir (tj_b x4)) 25
  refine br_t (by decide) (tk_idle (q := 0) (n := 2) (w := 5) (th := 7) hk rfl (Or.inl ⟨rfl, rfl, rfl⟩) tl_ok02 (fun F hF u' hk => ?_))
  obtain ⟨lv, qu, ai, st, fo, an, bo, tc, oc, ac, a1, a2, a3, a4, a5, a6, a7, a8, a9, a10, a11, a12, a13, a14, a15, a16, a17, a18, a19, a20, a21, a22, a23, a24, a25⟩ := u'
  refine br_t (by congr 1; exact tj_idle_eq hx8 (fun row hr hR => (hF row hr hR).trans tj_use0)) ?_
  refine tk_idle (q := 1) (n := 3) (w := 5) (th := 7) hk rfl (Or.inr ⟨rfl, rfl, rfl⟩) tl_ok13 (fun F hF u' hk => ?_)
  obtain ⟨lv, qu, ai, st, fo, an, bo, tc, oc, ac, a1, a2, a3, a4, a5, a6, a7, a8, a9, a10, a11, a12, a13, a14, a15, a16, a17, a18, a19, a20, a21, a22, a23, a24, a25⟩ := u'
  refine br_t (by congr 1; exact tj_idle_eq hx9 (fun row hr hR => (hF row hr hR).trans tj_use1)) ?_
  refine tk_within (q := 1) (q' := 0) (n := 3) (n' := 2) (w := 5) hk rfl (Or.inr ⟨rfl, rfl⟩) (Or.inr ⟨rfl, rfl, rfl⟩) tl_ok13 tl_wh7 (Or.inl ⟨rfl, rfl, rfl⟩) tl_ok02 tl_wh7 (by decide +kernel) true tj_h_A1 (fun u' hk => ?_)
  obtain ⟨lv, qu, ai, st, fo, an, bo, tc, oc, ac, a1, a2, a3, a4, a5, a6, a7, a8, a9, a10, a11, a12, a13, a14, a15, a16, a17, a18, a19, a20, a21, a22, a23, a24, a25⟩ := u'
  refine br_t rfl ?_
  refine tk_within (q := 0) (q' := 1) (n := 2) (n' := 3) (w := 5) hk rfl (Or.inl ⟨rfl, rfl⟩) (Or.inl ⟨rfl, rfl, rfl⟩) tl_ok02 tl_wh7 (Or.inr ⟨rfl, rfl, rfl⟩) tl_ok13 tl_wh7 (by decide +kernel) false (tj_no1 (by decide +kernel) (tj_F1 3 (by decide))) (fun u' hk => ?_)
  obtain ⟨lv, qu, ai, st, fo, an, bo, tc, oc, ac, a1, a2, a3, a4, a5, a6, a7, a8, a9, a10, a11, a12, a13, a14, a15, a16, a17, a18, a19, a20, a21, a22, a23, a24, a25⟩ := u'
  refine br_t rfl ?_
  refine tk_tree0 hk (fun u' hk => ?_)
  obtain ⟨lv, qu, ai, st, fo, an, bo, tc, oc, ac, a1, a2, a3, a4, a5, a6, a7, a8, a9, a10, a11, a12, a13, a14, a15, a16, a17, a18, a19, a20, a21, a22, a23, a24, a25⟩ := u'
  refine br_t rfl (tk_tree1 hk (fun u' hk => ?_))
  obtain ⟨lv, qu, ai, st, fo, an, bo, tc, oc, ac, a1, a2, a3, a4, a5, a6, a7, a8, a9, a10, a11, a12, a13, a14, a15, a16, a17, a18, a19, a20, a21, a22, a23, a24, a25⟩ := u'
  refine br_t rfl (tk_sm02 hk (fun u' hk => ?_))
  obtain ⟨lv, qu, ai, st, fo, an, bo, tc, oc, ac, a1, a2, a3, a4, a5, a6, a7, a8, a9, a10, a11, a12, a13, a14, a15, a16, a17, a18, a19, a20, a21, a22, a23, a24, a25⟩ := u'
  refine br_t rfl (tk_sm13 hk (fun u' hk => ?_))
  obtain ⟨lv, qu, ai, st, fo, an, bo, tc, oc, ac, a1, a2, a3, a4, a5, a6, a7, a8, a9, a10, a11, a12, a13, a14, a15, a16, a17, a18, a19, a20, a21, a22, a23, a24, a25⟩ := u'
  refine br_t rfl (tk_atom0 (v := 3) hk rfl rfl rfl (by decide) (by decide) (by decide) (by decide) (by decide) (fun u' hk => ?_))
  obtain ⟨lv, qu, ai, st, fo, an, bo, tc, oc, ac, a1, a2, a3, a4, a5, a6, a7, a8, a9, a10, a11, a12, a13, a14, a15, a16, a17, a18, a19, a20, a21, a22, a23, a24, a25⟩ := u'
  refine br_t (by decide) (tk_sm03 hk (fun u' hk => ?_))
  obtain ⟨lv, qu, ai, st, fo, an, bo, tc, oc, ac, a1, a2, a3, a4, a5, a6, a7, a8, a9, a10, a11, a12, a13, a14, a15, a16, a17, a18, a19, a20, a21, a22, a23, a24, a25⟩ := u'
  refine br_t rfl (tk_count (q := 0) (n := 3) (w := 5) (th := 15) hk rfl (Or.inl ⟨rfl, rfl, rfl⟩) tl_ok03 tl_wh15 (fun B hB u' hk => ?_))
  obtain ⟨lv, qu, ai, st, fo, an, bo, tc, oc, ac, a1, a2, a3, a4, a5, a6, a7, a8, a9, a10, a11, a12, a13, a14, a15, a16, a17, a18, a19, a20, a21, a22, a23, a24, a25⟩ := u'
  refine br_t ?_ ?_
  · rw [e6, tj_Bhi (M := tj_met (tj_b x4)) (fun k hk => (hB k hk).trans (tj_q0 (Or.inr rfl))) (by decide) (by decide)]
  refine tk_atom0 (v := 3) hk rfl rfl rfl (by decide) (by decide) (by decide) (by decide) (by decide) (fun u' hk => ?_)
  obtain ⟨lv, qu, ai, st, fo, an, bo, tc, oc, ac, a1, a2, a3, a4, a5, a6, a7, a8, a9, a10, a11, a12, a13, a14, a15, a16, a17, a18, a19, a20, a21, a22, a23, a24, a25⟩ := u'
  refine br_t (by decide) (tk_sm04 hk (fun u' hk => ?_))
  obtain ⟨lv, qu, ai, st, fo, an, bo, tc, oc, ac, a1, a2, a3, a4, a5, a6, a7, a8, a9, a10, a11, a12, a13, a14, a15, a16, a17, a18, a19, a20, a21, a22, a23, a24, a25⟩ := u'
  refine br_t rfl (tk_atomF (v := 0) hk rfl rfl rfl (by decide) (br_t rfl ?_))
  refine tk_within (q := 1) (q' := 0) (n := 3) (n' := 4) (w := 5) hk rfl (Or.inr ⟨rfl, rfl⟩) (Or.inr ⟨rfl, rfl, rfl⟩) tl_ok13 tl_wh7 (Or.inl ⟨rfl, rfl, rfl⟩) tl_ok04 tl_wh15 (by decide +kernel) true tj_h_A2 (fun u' hk => ?_)
  obtain ⟨lv, qu, ai, st, fo, an, bo, tc, oc, ac, a1, a2, a3, a4, a5, a6, a7, a8, a9, a10, a11, a12, a13, a14, a15, a16, a17, a18, a19, a20, a21, a22, a23, a24, a25⟩ := u'
  refine br_t rfl ?_
  refine tk_within (q := 0) (q' := 1) (n := 4) (n' := 3) (w := 5) hk rfl (Or.inl ⟨rfl, rfl⟩) (Or.inl ⟨rfl, rfl, rfl⟩) tl_ok04 tl_wh15 (Or.inr ⟨rfl, rfl, rfl⟩) tl_ok13 tl_wh7 (by decide +kernel) false (tj_no1 (by decide +kernel) (tj_F1 15 (by decide))) (fun u' hk => ?_)
  obtain ⟨lv, qu, ai, st, fo, an, bo, tc, oc, ac, a1, a2, a3, a4, a5, a6, a7, a8, a9, a10, a11, a12, a13, a14, a15, a16, a17, a18, a19, a20, a21, a22, a23, a24, a25⟩ := u'
  refine br_t rfl (tk_cut hk (fun u' hk => ?_))
  obtain ⟨lv, qu, ai, st, fo, an, bo, tc, oc, ac, a1, a2, a3, a4, a5, a6, a7, a8, a9, a10, a11, a12, a13, a14, a15, a16, a17, a18, a19, a20, a21, a22, a23, a24, a25⟩ := u'
  refine br_t (by decide) (tk_cutB hk (br_t rfl ?_))
  refine tk_ask0 (v := 0) hk rfl rfl (by decide) (fun u' hk => ?_)
  obtain ⟨lv, qu, ai, st, fo, an, bo, tc, oc, ac, a1, a2, a3, a4, a5, a6, a7, a8, a9, a10, a11, a12, a13, a14, a15, a16, a17, a18, a19, a20, a21, a22, a23, a24, a25⟩ := u'
  refine br_f (by decide) (tk_withinN (q := 0) hk rfl (by decide) tl_ok030 tl_wh015 tl_ok13 tl_wh7 (by decide) (br_t rfl ?_))
  refine tk_ask1 (v := 0) hk rfl rfl (by decide) (fun u' hk => ?_)
  obtain ⟨lv, qu, ai, st, fo, an, bo, tc, oc, ac, a1, a2, a3, a4, a5, a6, a7, a8, a9, a10, a11, a12, a13, a14, a15, a16, a17, a18, a19, a20, a21, a22, a23, a24, a25⟩ := u'
  refine br_f (by decide) ?_
  refine tk_within (q := 1) (q' := 0) (n := 3) (n' := 3) (w := 0) hk rfl (Or.inr ⟨rfl, rfl⟩) (Or.inr ⟨rfl, rfl, rfl⟩) tl_ok130 tl_wh07 (Or.inl ⟨rfl, rfl, rfl⟩) tl_ok030 tl_wh015 (by decide +kernel) true tj_h_A3 (fun u' hk => ?_)
  obtain ⟨lv, qu, ai, st, fo, an, bo, tc, oc, ac, a1, a2, a3, a4, a5, a6, a7, a8, a9, a10, a11, a12, a13, a14, a15, a16, a17, a18, a19, a20, a21, a22, a23, a24, a25⟩ := u'
  refine br_t rfl (tk_count (q := 1) (n := 3) (w := 0) (th := 7) hk rfl (Or.inr ⟨rfl, rfl, rfl⟩) tl_ok130 tl_wh07 (fun B hB u' hk => ?_))
  have hB' := tj_B0 (B := B) (fun k hk => (hB k hk).trans tj_q10)
  obtain ⟨lv, qu, ai, st, fo, an, bo, tc, oc, ac, a1, a2, a3, a4, a5, a6, a7, a8, a9, a10, a11, a12, a13, a14, a15, a16, a17, a18, a19, a20, a21, a22, a23, a24, a25⟩ := u'
  refine pk_le (tj_cnt (tj_cir (tj_b x4)) 25) 0 (fun z => ?_) (fun z => ?_) e7
  · exact tl_784 (x9 := x9) hp (by rw [hB'.2 (by omega)]; rfl) hk e5 e6 hx9 rfl
  · exact tl_784 (x9 := x9) hp (by rw [hB'.1 z]; rfl) hk e5 e6 hx9 rfl
theorem tl_502 {x2 x4 x5 x6 x7 x8 x9 : Int32} (hp : post 1 ()) (hk : tj_KK (lv, qu, ai, st, fo, an, bo, tc, oc, ac, a1, a2, a3, a4, a5, a6, a7, a8, a9, a10, a11, a12, a13, a14, a15, a16, a17, a18, a19, a20, a21, a22, a23, a24, a25) (tj_b x4) 2 3 5 5) (e5 : x5 = nI (tj_cnt (tj_b x4) 25)) (e6 : x6 = nI (tj_cnt (tj_met (tj_b x4)) 25)) (e7 : x7 = nI (tj_cnt (tj_cir (tj_b x4)) 25)) (hx8 : ∀ j, j < 25 → (tj_b x8 j = true ↔ tj_US (tj_b x4) 25 j)) (hx9 : ∀ j, j < 25 → (tj_b x9 j = true ↔ tj_UR (tj_b x4) 25 j)) : ∃ f, wL_lawOf_502 post mc ms x2 x4 x5 x6 x7 x8 x9 kc ks lv qu ai st fo an bo tc oc ac a1 a2 a3 a4 a5 a6 a7 a8 a9 a10 a11 a12 a13 a14 a15 a16 a17 a18 a19 a20 a21 a22 a23 a24 a25 f 0 0 0 := by
  refine pk_loop (σ := Unit) (fun f k _ => wL_lawOf_502 post mc ms x2 x4 x5 x6 x7 x8 x9 kc ks lv qu ai st fo an bo tc oc ac a1 a2 a3 a4 a5 a6 a7 a8 a9 a10 a11 a12 a13 a14 a15 a16 a17 a18 a19 a20 a21 a22 a23 a24 a25 f (nI (tj_cnt (tj_b (x4 &&& (x8 ^^^ (-1)))) k)) (nI (tj_cnt (tj_b (x4 &&& (x9 ^^^ (-1)))) k)) (nI k)) (fun _ _ => True) 25 0 () (by omega) trivial ?_ ?_
  · intro f _ _
    exact tl_502x hp hk e5 e6 e7 hx8 hx9
  · intro f k _ hk' _ hw
    have t := hw () trivial
    try dsimp only at t
    have second : ∀ y, y = nI (tj_cnt (tj_b (x4 &&& (x8 ^^^ (-1)))) (k + 1)) → wL_lawOf_528 post mc ms (wL_lawOf_502 post mc ms x2 x4 x5 x6 x7 x8 x9 kc ks lv qu ai st fo an bo tc oc ac a1 a2 a3 a4 a5 a6 a7 a8 a9 a10 a11 a12 a13 a14 a15 a16 a17 a18 a19 a20 a21 a22 a23 a24 a25 f) x2 x4 x5 x6 x7 x8 x9 y (nI (tj_cnt (tj_b (x4 &&& (x9 ^^^ (-1)))) k)) (nI k) kc ks lv qu ai st fo an bo tc oc ac a1 a2 a3 a4 a5 a6 a7 a8 a9 a10 a11 a12 a13 a14 a15 a16 a17 a18 a19 a20 a21 a22 a23 a24 a25 := by
      intro y hy
      rw [← hy] at t
      refine ek_if (tj_bo _ (show k < 32 by omega)) (fun z => nm_r (nI_1 _) (nm_r (nI_1 k) ?_)) (fun z => nm_r (nI_1 k) ?_)
      · rw [tj_cnt_t z] at t
        exact t
      · rw [tj_cnt_f (tj_nt z)] at t
        exact t
    refine br_f (nI_ge (b := 25) hk' (by decide)) (ek_if (tj_bo _ (show k < 32 by omega)) (fun z => nm_r (nI_1 _) (second _ ?_)) (fun z => second _ ?_))
    · rw [tj_cnt_t z]
    · rw [tj_cnt_f (tj_nt z)]
end
end
section
/-- a pair whose end is p -/
def tj_tm (R : Nat → Bool) (p k : Nat) : Bool := tj_met R k && decide (k % 5 = p)
section
variable {lv qu ai st fo an bo tc oc ac : Int32} {a1 : Nat → Int64} {a2 : Nat → Int32} {a3 : Nat → Int32} {a4 : Nat → Int32} {a5 : Nat → Int32} {a6 : Nat → Int32} {a7 : Nat → Int32} {a8 : Nat → Int32} {a9 : Nat → Int32} {a10 : Nat → Int64} {a11 : Nat → Int64} {a12 : Nat → Int64} {a13 : Nat → Int32} {a14 : Nat → Int32} {a15 : Nat → Int32} {a16 : Nat → Int32} {a17 : Nat → Int32} {a18 : Nat → Int32} {a19 : Nat → Int32} {a20 : Nat → Int32} {a21 : Nat → Int32} {a22 : Nat → Int32} {a23 : Nat → Int32} {a24 : Nat → Int32} {a25 : Nat → Int32}
variable {post : Int32 → St0 → Prop} {mc ms kc ks : Nat}
theorem tl_397 {J : Int32 → Int32 → Int32 → Int32 → Int32 → Int32 → Int32 → Int32 → Int32 → Int32 → Int32 → Int32 → Int32 → Int32 → Int32 → Int32 → (Nat → Int64) → (Nat → Int32) → (Nat → Int32) → (Nat → Int32) → (Nat → Int32) → (Nat → Int32) → (Nat → Int32) → (Nat → Int32) → (Nat → Int32) → (Nat → Int64) → (Nat → Int64) → (Nat → Int64) → (Nat → Int32) → (Nat → Int32) → (Nat → Int32) → (Nat → Int32) → (Nat → Int32) → (Nat → Int32) → (Nat → Int32) → (Nat → Int32) → (Nat → Int32) → (Nat → Int32) → (Nat → Int32) → (Nat → Int32) → (Nat → Int32) → Prop} {x2 x4 x5 x8 x9 x13 x14 x15 : Int32} {kk p : Nat} (hkk : kk < 25) (hp5 : p < 5) (e13 : x13 = nI (kk / 5)) (e14 : x14 = nI (kk % 5)) (e15 : x15 = if tj_met (tj_b x4) kk = true then 1 else 0)
    (H : J (nI (tj_cnt (tj_met (tj_b x4)) (kk + 1))) (nI (tj_cnt (tj_cir (tj_b x4)) (kk + 1))) x8 x9 (nI (tj_cnt (tj_tm (tj_b x4) p) (kk + 1))) (nI (kk + 1)) lv qu ai st fo an bo tc oc ac a1 a2 a3 a4 a5 a6 a7 a8 a9 a10 a11 a12 a13 a14 a15 a16 a17 a18 a19 a20 a21 a22 a23 a24 a25) :
    wL_lawOf_397 post mc ms J x2 x4 x5 (nI (tj_cnt (tj_met (tj_b x4)) kk)) (nI (tj_cnt (tj_cir (tj_b x4)) kk)) x8 x9 (nI (tj_cnt (tj_tm (tj_b x4) p) kk)) (nI p) (nI kk) x13 x14 x15 kc ks lv qu ai st fo an bo tc oc ac a1 a2 a3 a4 a5 a6 a7 a8 a9 a10 a11 a12 a13 a14 a15 a16 a17 a18 a19 a20 a21 a22 a23 a24 a25 := by
  cases hm : tj_met (tj_b x4) kk
  · rw [hm, if_neg (by decide)] at e15
    have hci : tj_cir (tj_b x4) kk = false := by unfold tj_cir; rw [hm, Bool.false_and]
    have htm : tj_tm (tj_b x4) p kk = false := by unfold tj_tm; rw [hm, Bool.false_and]
    rw [tj_cnt_f hm, tj_cnt_f hci, tj_cnt_f htm] at H
    exact br_t e15 (br_t e15 (br_t e15 (nm_r (nI_1 kk) H)))
  · rw [hm, if_pos rfl] at e15
    have n15 : ¬ x15 = 0 := by rw [e15]; decide
    rw [tj_cnt_t hm] at H
    -- the last check, whatever the circles
    have last : ∀ y, y = nI (tj_cnt (tj_cir (tj_b x4)) (kk + 1)) → wL_lawOf_425 post mc ms J x2 x4 x5 (nI (tj_cnt (tj_met (tj_b x4)) kk + 1)) y x8 x9 (nI (tj_cnt (tj_tm (tj_b x4) p) kk)) (nI p) (nI kk) x14 x15 kc ks lv qu ai st fo an bo tc oc ac a1 a2 a3 a4 a5 a6 a7 a8 a9 a10 a11 a12 a13 a14 a15 a16 a17 a18 a19 a20 a21 a22 a23 a24 a25 := by
      intro y hy
      rw [← hy] at H
      refine br_f n15 (pk_eq (kk % 5) p (fun e => ?_) (fun e => ?_) e14)
      · rw [tj_cnt_t (show tj_tm (tj_b x4) p kk = true by unfold tj_tm; rw [hm, decide_eq_true e]; rfl)] at H
        exact nm_r (nI_1 _) (nm_r (nI_1 kk) H)
      · rw [tj_cnt_f (show tj_tm (tj_b x4) p kk = false by unfold tj_tm; rw [hm, decide_eq_false e]; rfl)] at H
        exact nm_r (nI_1 kk) H
    refine br_f n15 (nm_r (nI_1 _) (br_f n15 (tl_row e14 e13 (by omega) (by omega) (fun z => br_f (by decide) (nm_r (nI_1 _) (last _ ?_))) (fun z => br_t rfl (last _ ?_)))))
    · rw [tj_cnt_t (show tj_cir (tj_b x4) kk = true by unfold tj_cir; rw [hm, z]; rfl)]
    · rw [tj_cnt_f (show tj_cir (tj_b x4) kk = false by unfold tj_cir; rw [hm, z]; rfl)]
theorem tl_366 {J : Int32 → Int32 → Int32 → Int32 → Int32 → Int32 → Int32 → Int32 → Int32 → Int32 → Int32 → Int32 → Int32 → Int32 → Int32 → Int32 → (Nat → Int64) → (Nat → Int32) → (Nat → Int32) → (Nat → Int32) → (Nat → Int32) → (Nat → Int32) → (Nat → Int32) → (Nat → Int32) → (Nat → Int32) → (Nat → Int64) → (Nat → Int64) → (Nat → Int64) → (Nat → Int32) → (Nat → Int32) → (Nat → Int32) → (Nat → Int32) → (Nat → Int32) → (Nat → Int32) → (Nat → Int32) → (Nat → Int32) → (Nat → Int32) → (Nat → Int32) → (Nat → Int32) → (Nat → Int32) → (Nat → Int32) → Prop} {x2 x4 x5 x8 x9 x13 x14 x15 : Int32} {kk p : Nat} (hk : tj_KK (lv, qu, ai, st, fo, an, bo, tc, oc, ac, a1, a2, a3, a4, a5, a6, a7, a8, a9, a10, a11, a12, a13, a14, a15, a16, a17, a18, a19, a20, a21, a22, a23, a24, a25) (tj_b x4) 2 3 5 5) (hkk : kk < 25) (hp5 : p < 5) (e13 : x13 = nI (kk / 5)) (e14 : x14 = nI (kk % 5)) (e15 : x15 = if tj_met (tj_b x4) kk = true then 1 else 0)
    (H : ∀ lv qu ai st fo an bo tc oc ac a1 a2 a3 a4 a5 a6 a7 a8 a9 a10 a11 a12 a13 a14 a15 a16 a17 a18 a19 a20 a21 a22 a23 a24 a25, tj_KK (lv, qu, ai, st, fo, an, bo, tc, oc, ac, a1, a2, a3, a4, a5, a6, a7, a8, a9, a10, a11, a12, a13, a14, a15, a16, a17, a18, a19, a20, a21, a22, a23, a24, a25) (tj_b x4) 2 3 5 5 → J (nI (tj_cnt (tj_met (tj_b x4)) (kk + 1))) (nI (tj_cnt (tj_cir (tj_b x4)) (kk + 1))) x8 x9 (nI (tj_cnt (tj_tm (tj_b x4) p) (kk + 1))) (nI (kk + 1)) lv qu ai st fo an bo tc oc ac a1 a2 a3 a4 a5 a6 a7 a8 a9 a10 a11 a12 a13 a14 a15 a16 a17 a18 a19 a20 a21 a22 a23 a24 a25) :
    wL_lawOf_366 post mc ms J x2 x4 x5 (nI (tj_cnt (tj_met (tj_b x4)) kk)) (nI (tj_cnt (tj_cir (tj_b x4)) kk)) x8 x9 (nI (tj_cnt (tj_tm (tj_b x4) p) kk)) (nI p) (nI kk) x13 x14 x15 kc ks lv qu ai st fo an bo tc oc ac a1 a2 a3 a4 a5 a6 a7 a8 a9 a10 a11 a12 a13 a14 a15 a16 a17 a18 a19 a20 a21 a22 a23 a24 a25 := by
  have hcle := tj_cnt_le (tj_cir (tj_b x4)) kk
  have plain : wL_lawOf_397 post mc ms J x2 x4 x5 (nI (tj_cnt (tj_met (tj_b x4)) kk)) (nI (tj_cnt (tj_cir (tj_b x4)) kk)) x8 x9 (nI (tj_cnt (tj_tm (tj_b x4) p) kk)) (nI p) (nI kk) x13 x14 x15 kc ks lv qu ai st fo an bo tc oc ac a1 a2 a3 a4 a5 a6 a7 a8 a9 a10 a11 a12 a13 a14 a15 a16 a17 a18 a19 a20 a21 a22 a23 a24 a25 := tl_397 hkk hp5 e13 e14 e15 (H lv qu ai st fo an bo tc oc ac a1 a2 a3 a4 a5 a6 a7 a8 a9 a10 a11 a12 a13 a14 a15 a16 a17 a18 a19 a20 a21 a22 a23 a24 a25 hk)
  refine br_c (fun _ => plain) (fun n15 => tl_row e14 e13 (by omega) (by omega) (fun z => br_f (by decide) ?_) (fun z => br_t rfl plain))
  have hm : tj_met (tj_b x4) kk = true := by
    cases hm : tj_met (tj_b x4) kk
    · rw [hm, if_neg (by decide)] at e15; exact absurd e15 n15
    · rfl
  have hci : tj_cir (tj_b x4) kk = true := by unfold tj_cir; rw [hm, z]; rfl
  refine tk_answer (q := 1) (n := 3) (w := 5) (th := 7) (k := tj_cnt (tj_cir (tj_b x4)) kk) hk rfl rfl (by omega) (Or.inr ⟨rfl, rfl, rfl⟩) tl_ok13 tl_wh7 (fun B hB r hr u' hk' => ?_)
  have hr' := tj_ans_yes (M := tj_cir (tj_b x4)) (fun k hk => (hB k hk).trans tj_q1) hkk hci hr
  obtain ⟨lv, qu, ai, st, fo, an, bo, tc, oc, ac, a1, a2, a3, a4, a5, a6, a7, a8, a9, a10, a11, a12, a13, a14, a15, a16, a17, a18, a19, a20, a21, a22, a23, a24, a25⟩ := u'
  exact br_t hr' (tl_397 hkk hp5 e13 e14 e15 (H lv qu ai st fo an bo tc oc ac a1 a2 a3 a4 a5 a6 a7 a8 a9 a10 a11 a12 a13 a14 a15 a16 a17 a18 a19 a20 a21 a22 a23 a24 a25 hk'))
/-- one pair of ends, all that lie between -/
theorem tl_238 {J : Int32 → Int32 → Int32 → Int32 → Int32 → Int32 → Int32 → Int32 → Int32 → Int32 → Int32 → Int32 → Int32 → Int32 → Int32 → Int32 → (Nat → Int64) → (Nat → Int32) → (Nat → Int32) → (Nat → Int32) → (Nat → Int32) → (Nat → Int32) → (Nat → Int32) → (Nat → Int32) → (Nat → Int32) → (Nat → Int64) → (Nat → Int64) → (Nat → Int64) → (Nat → Int32) → (Nat → Int32) → (Nat → Int32) → (Nat → Int32) → (Nat → Int32) → (Nat → Int32) → (Nat → Int32) → (Nat → Int32) → (Nat → Int32) → (Nat → Int32) → (Nat → Int32) → (Nat → Int32) → (Nat → Int32) → Prop} {x2 x4 x5 x8 x9 x13 x14 : Int32} {kk p : Nat} (hk : tj_KK (lv, qu, ai, st, fo, an, bo, tc, oc, ac, a1, a2, a3, a4, a5, a6, a7, a8, a9, a10, a11, a12, a13, a14, a15, a16, a17, a18, a19, a20, a21, a22, a23, a24, a25) (tj_b x4) 2 3 5 5) (hkk : kk < 25) (hp5 : p < 5) (e13 : x13 = nI (kk / 5)) (e14 : x14 = nI (kk % 5)) (hx8 : ∀ j, j < 25 → (tj_b x8 j = true ↔ tj_US (tj_b x4) kk j)) (hx9 : ∀ j, j < 25 → (tj_b x9 j = true ↔ tj_UR (tj_b x4) kk j))
    (H : ∀ y8 y9, (∀ j, j < 25 → (tj_b y8 j = true ↔ tj_US (tj_b x4) (kk + 1) j)) → (∀ j, j < 25 → (tj_b y9 j = true ↔ tj_UR (tj_b x4) (kk + 1) j)) → ∀ lv qu ai st fo an bo tc oc ac a1 a2 a3 a4 a5 a6 a7 a8 a9 a10 a11 a12 a13 a14 a15 a16 a17 a18 a19 a20 a21 a22 a23 a24 a25, tj_KK (lv, qu, ai, st, fo, an, bo, tc, oc, ac, a1, a2, a3, a4, a5, a6, a7, a8, a9, a10, a11, a12, a13, a14, a15, a16, a17, a18, a19, a20, a21, a22, a23, a24, a25) (tj_b x4) 2 3 5 5 → J (nI (tj_cnt (tj_met (tj_b x4)) (kk + 1))) (nI (tj_cnt (tj_cir (tj_b x4)) (kk + 1))) y8 y9 (nI (tj_cnt (tj_tm (tj_b x4) p) (kk + 1))) (nI (kk + 1)) lv qu ai st fo an bo tc oc ac a1 a2 a3 a4 a5 a6 a7 a8 a9 a10 a11 a12 a13 a14 a15 a16 a17 a18 a19 a20 a21 a22 a23 a24 a25) :
    ∃ f, wL_lawOf_238 post mc ms J x2 x4 x5 (nI (tj_cnt (tj_met (tj_b x4)) kk)) (nI (tj_cnt (tj_cir (tj_b x4)) kk)) (nI (tj_cnt (tj_tm (tj_b x4) p) kk)) (nI p) (nI kk) x13 x14 kc ks lv qu ai st fo an bo tc oc ac a1 a2 a3 a4 a5 a6 a7 a8 a9 a10 a11 a12 a13 a14 a15 a16 a17 a18 a19 a20 a21 a22 a23 a24 a25 f x8 x9 0 0 := by
  have hmle := tj_cnt_le (tj_met (tj_b x4)) kk
  refine pk_loop (fun f b (s : Int32 × Int32) => wL_lawOf_238 post mc ms J x2 x4 x5 (nI (tj_cnt (tj_met (tj_b x4)) kk)) (nI (tj_cnt (tj_cir (tj_b x4)) kk)) (nI (tj_cnt (tj_tm (tj_b x4) p) kk)) (nI p) (nI kk) x13 x14 kc ks lv qu ai st fo an bo tc oc ac a1 a2 a3 a4 a5 a6 a7 a8 a9 a10 a11 a12 a13 a14 a15 a16 a17 a18 a19 a20 a21 a22 a23 a24 a25 f s.1 s.2 (if tj_mb (tj_b x4) (kk / 5) (kk % 5) b = true then 1 else 0) (nI b)) (fun b s => (∀ j, j < 25 → (tj_b s.1 j = true ↔ (tj_US (tj_b x4) kk j ∨ ∃ b', b' < b ∧ tj_b x4 (5 * (kk / 5) + b') = true ∧ tj_b x4 (5 * b' + kk % 5) = true ∧ (j = 5 * (kk / 5) + b' ∨ j = 5 * b' + kk % 5)))) ∧ (∀ j, j < 25 → (tj_b s.2 j = true ↔ (tj_UR (tj_b x4) kk j ∨ ∃ b', b' < b ∧ tj_b x4 (5 * (kk / 5) + b') = true ∧ tj_b x4 (5 * b' + kk % 5) = true ∧ tj_b x4 (5 * (kk % 5) + kk / 5) = true ∧ (j = 5 * (kk / 5) + b' ∨ j = 5 * b' + kk % 5 ∨ j = 5 * (kk % 5) + kk / 5))))) 5 0 (x8, x9) (by omega) ⟨fun j hj => ?_, fun j hj => ?_⟩ ?_ ?_
  · rw [hx8 j hj]
    constructor
    · exact fun h => Or.inl h
    · rintro (h | ⟨b', hb', _⟩)
      · exact h
      · exact absurd hb' (Nat.not_lt_zero _)
  · rw [hx9 j hj]
    constructor
    · exact fun h => Or.inl h
    · rintro (h | ⟨b', hb', _⟩)
      · exact h
      · exact absurd hb' (Nat.not_lt_zero _)
  · intro f s hs
    obtain ⟨y8, y9⟩ := s
    obtain ⟨g8, g9⟩ := hs
    dsimp only at g8 g9
    have k8 : ∀ j, j < 25 → (tj_b y8 j = true ↔ tj_US (tj_b x4) (kk + 1) j) := by
      intro j hj
      rw [g8 j hj]
      constructor
      · rintro (⟨k, h1, h2⟩ | h)
        · exact ⟨k, by omega, h2⟩
        · exact ⟨kk, by omega, h⟩
      · rintro ⟨k, h1, h2⟩
        by_cases e : k = kk
        · rw [e] at h2; exact Or.inr h2
        · exact Or.inl ⟨k, by omega, h2⟩
    have k9 : ∀ j, j < 25 → (tj_b y9 j = true ↔ tj_UR (tj_b x4) (kk + 1) j) := by
      intro j hj
      rw [g9 j hj]
      constructor
      · rintro (⟨k, h1, h2⟩ | h)
        · exact ⟨k, by omega, h2⟩
        · exact ⟨kk, by omega, h⟩
      · rintro ⟨k, h1, h2⟩
        by_cases e : k = kk
        · rw [e] at h2; exact Or.inr h2
        · exact Or.inl ⟨k, by omega, h2⟩
    refine br_t (by decide) (br_c (fun _ => tl_366 hk hkk hp5 e13 e14 rfl (H y8 y9 k8 k9)) (fun n15 => ?_))
    have hm : tj_met (tj_b x4) kk = true := by
      cases hm : tj_met (tj_b x4) kk
      · have : tj_mb (tj_b x4) (kk / 5) (kk % 5) 5 = false := hm
        rw [this] at n15
        exact absurd rfl n15
      · rfl
    refine tk_answer (q := 0) (n := 2) (w := 5) (th := 7) (k := tj_cnt (tj_met (tj_b x4)) kk) hk rfl rfl (by omega) (Or.inl ⟨rfl, rfl, rfl⟩) tl_ok02 tl_wh7 (fun B hB r hr u' hk' => ?_)
    have hr' := tj_ans_yes (M := tj_met (tj_b x4)) (fun k hk => (hB k hk).trans (tj_q0 (Or.inl rfl))) hkk hm hr
    obtain ⟨lv, qu, ai, st, fo, an, bo, tc, oc, ac, a1, a2, a3, a4, a5, a6, a7, a8, a9, a10, a11, a12, a13, a14, a15, a16, a17, a18, a19, a20, a21, a22, a23, a24, a25⟩ := u'
    exact br_t hr' (tl_366 hk' hkk hp5 e13 e14 rfl (H y8 y9 k8 k9))
  · intro f b s hb hs hw
    obtain ⟨y8, y9⟩ := s
    obtain ⟨g8, g9⟩ := hs
    dsimp only at g8 g9
    have ha : kk / 5 < 5 := by omega
    have hc : kk % 5 < 5 := by omega
    -- no path through b
    have skip : (tj_b x4 (5 * (kk / 5) + b) && tj_b x4 (5 * b + kk % 5)) = false → wL_lawOf_238 post mc ms J x2 x4 x5 (nI (tj_cnt (tj_met (tj_b x4)) kk)) (nI (tj_cnt (tj_cir (tj_b x4)) kk)) (nI (tj_cnt (tj_tm (tj_b x4) p) kk)) (nI p) (nI kk) x13 x14 kc ks lv qu ai st fo an bo tc oc ac a1 a2 a3 a4 a5 a6 a7 a8 a9 a10 a11 a12 a13 a14 a15 a16 a17 a18 a19 a20 a21 a22 a23 a24 a25 f y8 y9 (if tj_mb (tj_b x4) (kk / 5) (kk % 5) b = true then 1 else 0) (nI (b + 1)) := by
      intro hno
      have t := hw (y8, y9) ⟨fun j hj => ?_, fun j hj => ?_⟩
      · have e : tj_mb (tj_b x4) (kk / 5) (kk % 5) (b + 1) = tj_mb (tj_b x4) (kk / 5) (kk % 5) b := by
          show (tj_mb (tj_b x4) (kk / 5) (kk % 5) b || _) = _
          rw [hno, Bool.or_false]
        try dsimp only at t
        rw [e] at t
        exact t
      · dsimp only
        rw [g8 j hj]
        constructor
        · rintro (h | ⟨b', h1, h2⟩)
          · exact Or.inl h
          · exact Or.inr ⟨b', by omega, h2⟩
        · rintro (h | ⟨b', h1, h2, h3, h4⟩)
          · exact Or.inl h
          · have : b' ≠ b := fun e => by rw [e] at h2 h3; rw [h2, h3] at hno; exact absurd hno (by decide)
            exact Or.inr ⟨b', by omega, h2, h3, h4⟩
      · dsimp only
        rw [g9 j hj]
        constructor
        · rintro (h | ⟨b', h1, h2⟩)
          · exact Or.inl h
          · exact Or.inr ⟨b', by omega, h2⟩
        · rintro (h | ⟨b', h1, h2, h3, h4⟩)
          · exact Or.inl h
          · have : b' ≠ b := fun e => by rw [e] at h2 h3; rw [h2, h3] at hno; exact absurd hno (by decide)
            exact Or.inr ⟨b', by omega, h2, h3, h4⟩
    refine br_f (nI_ge (b := 5) hb (by decide)) (tl_row e13 rfl ha hb (fun z1 => br_f (by decide) ?_) (fun z1 => br_t rfl (nm_r (nI_1 b) (skip (by rw [z1, Bool.false_and])))))
    refine tl_row rfl e14 hb hc (fun z2 => br_f (by decide) ?_) (fun z2 => br_t rfl (nm_r (nI_1 b) (skip (by rw [z2, Bool.and_false]))))
    have eab : (5 : Int32) * x13 + nI b = nI (5 * (kk / 5) + b) := by rw [e13]; exact tj_ix 5 _ _
    have ebc : (5 : Int32) * nI b + x14 = nI (5 * b + kk % 5) := by rw [e14]; exact tj_ix 5 _ _
    have eca : (5 : Int32) * x14 + x13 = nI (5 * (kk % 5) + kk / 5) := by rw [e13, e14]; exact tj_ix 5 _ _
    refine nm_r (e' := (y8 ||| ((1 : Int32) <<< (nI (5 * (kk / 5) + b) &&& 31))) ||| ((1 : Int32) <<< (nI (5 * b + kk % 5) &&& 31))) (by rw [eab, ebc]) ?_
    have hmb : tj_mb (tj_b x4) (kk / 5) (kk % 5) (b + 1) = true := by
      show (tj_mb (tj_b x4) (kk / 5) (kk % 5) b || _) = true
      rw [z1, z2]
      simp
    have b8 : ∀ j, j < 25 → (tj_b ((y8 ||| ((1 : Int32) <<< (nI (5 * (kk / 5) + b) &&& 31))) ||| ((1 : Int32) <<< (nI (5 * b + kk % 5) &&& 31))) j = true ↔ (tj_US (tj_b x4) kk j ∨ ∃ b', b' < b + 1 ∧ tj_b x4 (5 * (kk / 5) + b') = true ∧ tj_b x4 (5 * b' + kk % 5) = true ∧ (j = 5 * (kk / 5) + b' ∨ j = 5 * b' + kk % 5))) := by
      intro j hj
      rw [tj_or, tj_or, tj_shl1 _ (by omega) j (by omega), tj_shl1 _ (by omega) j (by omega), Bool.or_eq_true, Bool.or_eq_true, decide_eq_true_iff, decide_eq_true_iff, g8 j hj]
      constructor
      · rintro (((h | ⟨b', h1, h2⟩) | h) | h)
        · exact Or.inl h
        · exact Or.inr ⟨b', by omega, h2⟩
        · exact Or.inr ⟨b, by omega, z1, z2, Or.inl h⟩
        · exact Or.inr ⟨b, by omega, z1, z2, Or.inr h⟩
      · rintro (h | ⟨b', h1, h2, h3, h4⟩)
        · exact Or.inl (Or.inl (Or.inl h))
        · by_cases e : b' = b
          · rw [e] at h4
            rcases h4 with h4 | h4
            · exact Or.inl (Or.inr h4)
            · exact Or.inr h4
          · exact Or.inl (Or.inl (Or.inr ⟨b', by omega, h2, h3, h4⟩))
    refine tl_row e14 e13 hc ha (fun z3 => br_f (by decide) ?_) (fun z3 => br_t rfl (nm_r (nI_1 b) ?_))
    · refine nm_r (e' := ((y9 ||| ((1 : Int32) <<< (nI (5 * (kk / 5) + b) &&& 31))) ||| ((1 : Int32) <<< (nI (5 * b + kk % 5) &&& 31))) ||| ((1 : Int32) <<< (nI (5 * (kk % 5) + kk / 5) &&& 31))) (by rw [eab, ebc, eca]) (nm_r (nI_1 b) ?_)
      have t := hw (_, ((y9 ||| ((1 : Int32) <<< (nI (5 * (kk / 5) + b) &&& 31))) ||| ((1 : Int32) <<< (nI (5 * b + kk % 5) &&& 31))) ||| ((1 : Int32) <<< (nI (5 * (kk % 5) + kk / 5) &&& 31))) ⟨b8, fun j hj => ?_⟩
      · try dsimp only at t
        rw [hmb, if_pos rfl] at t
        exact t
      · dsimp only
        rw [tj_or, tj_or, tj_or, tj_shl1 _ (by omega) j (by omega), tj_shl1 _ (by omega) j (by omega), tj_shl1 _ (by omega) j (by omega), Bool.or_eq_true, Bool.or_eq_true, Bool.or_eq_true, decide_eq_true_iff, decide_eq_true_iff, decide_eq_true_iff, g9 j hj]
        constructor
        · rintro ((((h | ⟨b', h1, h2⟩) | h) | h) | h)
          · exact Or.inl h
          · exact Or.inr ⟨b', by omega, h2⟩
          · exact Or.inr ⟨b, by omega, z1, z2, z3, Or.inl h⟩
          · exact Or.inr ⟨b, by omega, z1, z2, z3, Or.inr (Or.inl h)⟩
          · exact Or.inr ⟨b, by omega, z1, z2, z3, Or.inr (Or.inr h)⟩
        · rintro (h | ⟨b', h1, h2, h3, h4, h5⟩)
          · exact Or.inl (Or.inl (Or.inl (Or.inl h)))
          · by_cases e : b' = b
            · rw [e] at h5
              rcases h5 with h5 | h5 | h5
              · exact Or.inl (Or.inl (Or.inr h5))
              · exact Or.inl (Or.inr h5)
              · exact Or.inr h5
            · exact Or.inl (Or.inl (Or.inl (Or.inr ⟨b', by omega, h2, h3, h4, h5⟩)))
    · have t := hw (_, y9) ⟨b8, fun j hj => ?_⟩
      · try dsimp only at t
        rw [hmb, if_pos rfl] at t
        exact t
      · dsimp only
        rw [g9 j hj]
        constructor
        · rintro (h | ⟨b', h1, h2⟩)
          · exact Or.inl h
          · exact Or.inr ⟨b', by omega, h2⟩
        · rintro (h | ⟨b', h1, h2, h3, h4, h5⟩)
          · exact Or.inl h
          · rw [z3] at h4; exact absurd h4 (by decide)
end
end
section
section
variable {post : Int32 → St0 → Prop} {mc ms kc ks : Nat}
def tl_W213 (post : Int32 → St0 → Prop) (mc ms : Nat) (x2 x4 x5 x11 : Int32) (kc ks f : Nat) (x6 x7 x8 x9 x10 x12 : Int32) (u : St2) : Prop := match u with
  | (lv, qu, ai, st, fo, an, bo, tc, oc, ac, a1, a2, a3, a4, a5, a6, a7, a8, a9, a10, a11, a12, a13, a14, a15, a16, a17, a18, a19, a20, a21, a22, a23, a24, a25) => wL_lawOf_213 post mc ms x2 x4 x5 x11 kc ks f x6 x7 x8 x9 x10 x12 lv qu ai st fo an bo tc oc ac a1 a2 a3 a4 a5 a6 a7 a8 a9 a10 a11 a12 a13 a14 a15 a16 a17 a18 a19 a20 a21 a22 a23 a24 a25
def tl_W17 (post : Int32 → St0 → Prop) (mc ms : Nat) (x0 x1 x2 : Int32) (kc ks f : Nat) (x4 x5 x6 : Int32) (u : St2) : Prop := match u with
  | (lv, qu, ai, st, fo, an, bo, tc, oc, ac, a1, a2, a3, a4, a5, a6, a7, a8, a9, a10, a11, a12, a13, a14, a15, a16, a17, a18, a19, a20, a21, a22, a23, a24, a25) => wL_lawOf_17 post mc ms x0 x1 x2 kc ks f x4 x5 x6 lv qu ai st fo an bo tc oc ac a1 a2 a3 a4 a5 a6 a7 a8 a9 a10 a11 a12 a13 a14 a15 a16 a17 a18 a19 a20 a21 a22 a23 a24 a25
theorem tl_213 {u : St2} {x2 x4 x5 : Int32} {p : Nat} (hp : post 1 ()) (hp5 : p < 5) (hk : tj_KK u (tj_b x4) 2 3 5 5) (e5 : x5 = nI (tj_cnt (tj_b x4) 25)) : ∃ f, tl_W213 post mc ms x2 x4 x5 (nI p) kc ks f 0 0 0 0 0 0 u := by
  refine pk_loop (fun f kk (s : Int32 × Int32 × St2) => tl_W213 post mc ms x2 x4 x5 (nI p) kc ks f (nI (tj_cnt (tj_met (tj_b x4)) kk)) (nI (tj_cnt (tj_cir (tj_b x4)) kk)) s.1 s.2.1 (nI (tj_cnt (tj_tm (tj_b x4) p) kk)) (nI kk) s.2.2) (fun kk s => (∀ j, j < 25 → (tj_b s.1 j = true ↔ tj_US (tj_b x4) kk j)) ∧ (∀ j, j < 25 → (tj_b s.2.1 j = true ↔ tj_UR (tj_b x4) kk j)) ∧ tj_KK s.2.2 (tj_b x4) 2 3 5 5) 25 0 (0, 0, u) (by omega) ⟨fun j _ => ?_, fun j _ => ?_, hk⟩ ?_ ?_
  · dsimp only
    rw [tj_0]
    constructor
    · intro z; exact absurd z (by decide)
    · rintro ⟨k, hk, _⟩; exact absurd hk (Nat.not_lt_zero _)
  · dsimp only
    rw [tj_0]
    constructor
    · intro z; exact absurd z (by decide)
    · rintro ⟨k, hk, _⟩; exact absurd hk (Nat.not_lt_zero _)
  · intro f s hs
    obtain ⟨x8, x9, lv, qu, ai, st, fo, an, bo, tc, oc, ac, a1, a2, a3, a4, a5, a6, a7, a8, a9, a10, a11, a12, a13, a14, a15, a16, a17, a18, a19, a20, a21, a22, a23, a24, a25⟩ := s
    obtain ⟨h8, h9, hk⟩ := hs
    dsimp only at h8 h9 hk
    have hmle := tj_cnt_le (tj_met (tj_b x4)) 25
    refine br_t (by decide) (tk_count (q := 0) (n := 2) (w := 5) (th := 7) hk rfl (Or.inl ⟨rfl, rfl, rfl⟩) tl_ok02 tl_wh7 (fun B hB u' hk => ?_))
    obtain ⟨lv, qu, ai, st, fo, an, bo, tc, oc, ac, a1, a2, a3, a4, a5, a6, a7, a8, a9, a10, a11, a12, a13, a14, a15, a16, a17, a18, a19, a20, a21, a22, a23, a24, a25⟩ := u'
    refine br_t ?_ (tk_count (q := 1) (n := 3) (w := 5) (th := 7) hk rfl (Or.inr ⟨rfl, rfl, rfl⟩) tl_ok13 tl_wh7 (fun B hB u' hk => ?_))
    · rw [tj_Bhi (M := tj_met (tj_b x4)) (fun k hk => (hB k hk).trans (tj_q0 (Or.inl rfl))) (by decide) (by decide)]
    obtain ⟨lv, qu, ai, st, fo, an, bo, tc, oc, ac, a1, a2, a3, a4, a5, a6, a7, a8, a9, a10, a11, a12, a13, a14, a15, a16, a17, a18, a19, a20, a21, a22, a23, a24, a25⟩ := u'
    refine br_t ?_ (tk_answer (q := 0) (n := 2) (w := 5) (th := 7) (k := tj_cnt (tj_met (tj_b x4)) 25) hk rfl rfl (by omega) (Or.inl ⟨rfl, rfl, rfl⟩) tl_ok02 tl_wh7 (fun B hB r hr u' hk => ?_))
    · rw [tj_Bhi (M := tj_cir (tj_b x4)) (fun k hk => (hB k hk).trans tj_q1) (by decide) (by decide)]
    obtain ⟨lv, qu, ai, st, fo, an, bo, tc, oc, ac, a1, a2, a3, a4, a5, a6, a7, a8, a9, a10, a11, a12, a13, a14, a15, a16, a17, a18, a19, a20, a21, a22, a23, a24, a25⟩ := u'
    refine br_t (tj_ans_no (M := tj_met (tj_b x4)) (fun k hk => (hB k hk).trans (tj_q0 (Or.inl rfl))) hr) ?_
    refine tk_often (q := 0) (n := 2) (th := 7) (p := p) hk rfl rfl rfl hp5 (Or.inl ⟨rfl, rfl, rfl⟩) tl_ok02 tl_wh7 (fun B hB u' hk => ?_)
    obtain ⟨lv, qu, ai, st, fo, an, bo, tc, oc, ac, a1, a2, a3, a4, a5, a6, a7, a8, a9, a10, a11, a12, a13, a14, a15, a16, a17, a18, a19, a20, a21, a22, a23, a24, a25⟩ := u'
    refine br_t ?_ (tl_502 hp hk e5 rfl rfl h8 h9)
    rw [tj_often (M := tj_met (tj_b x4)) (fun k hk => (hB k hk).trans (tj_q0 (Or.inl rfl))) p]
    rfl
  · intro f kk s hkk hs hw
    obtain ⟨x8, x9, lv, qu, ai, st, fo, an, bo, tc, oc, ac, a1, a2, a3, a4, a5, a6, a7, a8, a9, a10, a11, a12, a13, a14, a15, a16, a17, a18, a19, a20, a21, a22, a23, a24, a25⟩ := s
    obtain ⟨h8, h9, hk⟩ := hs
    dsimp only at h8 h9 hk
    refine br_f (nI_ge (b := 25) hkk (by decide)) ⟨by decide, nm_r (e' := nI (kk / 5)) (pk_div (a := kk) (d := 5) (by omega) (by decide) (by decide)) ⟨by decide, nm_r (e' := nI (kk % 5)) (pk_rem (a := kk) (d := 5) (by omega) (by decide) (by decide)) ?_⟩⟩
    exact tl_238 hk hkk hp5 rfl rfl h8 h9 (fun y8 y9 k8 k9 lv qu ai st fo an bo tc oc ac a1 a2 a3 a4 a5 a6 a7 a8 a9 a10 a11 a12 a13 a14 a15 a16 a17 a18 a19 a20 a21 a22 a23 a24 a25 hk' => hw (y8, y9, (lv, qu, ai, st, fo, an, bo, tc, oc, ac, a1, a2, a3, a4, a5, a6, a7, a8, a9, a10, a11, a12, a13, a14, a15, a16, a17, a18, a19, a20, a21, a22, a23, a24, a25)) ⟨k8, k9, hk'⟩)
theorem tl_17 {u : St2} {x0 x1 x2 : Int32} (hp : post 1 ()) (hk : tj_KK u (tj_b 0) 0 0 0 0) : ∃ f, tl_W17 post mc ms x0 x1 x2 kc ks f 0 0 0 u := by
  have hc0 : tj_cnt (tj_b 0) 25 = 0 := tj_cnt_zero (fun j _ => tj_0 j)
  have main : ∃ n, tl_W17 post mc ms x0 x1 x2 kc ks n 0 (nI (tj_cnt (tj_b 0) 25)) (nI 0) u := by
    refine pk_loop (fun f k (s : Int32 × St2) => tl_W17 post mc ms x0 x1 x2 kc ks f s.1 (nI (tj_cnt (tj_b s.1) 25)) (nI k) s.2) (fun k s => tj_KK s.2 (tj_b s.1) 0 0 0 0 ∧ ∀ j, k ≤ j → j < 25 → tj_b s.1 j = false) 25 0 (0, u) (by omega) ⟨hk, fun j _ _ => tj_0 j⟩ ?_ ?_
    · intro f s hs
      obtain ⟨x4, lv, qu, ai, st, fo, an, bo, tc, oc, ac, a1, a2, a3, a4, a5, a6, a7, a8, a9, a10, a11, a12, a13, a14, a15, a16, a17, a18, a19, a20, a21, a22, a23, a24, a25⟩ := s
      obtain ⟨hk, -⟩ := hs
      dsimp only at hk
      refine br_t (by decide) (tk_rows0 hk (br_t rfl (tk_rows1 hk (br_t rfl (tk_rows3 (br_t rfl ?_))))))
      refine tk_atom0 (v := 1) hk rfl rfl rfl (by decide) (by decide) (by decide) (by decide) (by decide) (fun u' hk => ?_)
      obtain ⟨lv, qu, ai, st, fo, an, bo, tc, oc, ac, a1, a2, a3, a4, a5, a6, a7, a8, a9, a10, a11, a12, a13, a14, a15, a16, a17, a18, a19, a20, a21, a22, a23, a24, a25⟩ := u'
      refine tk_atom0 (v := 7) hk rfl rfl rfl (by decide) (by decide) (by decide) (by decide) (by decide) (fun u' hk => ?_)
      obtain ⟨lv, qu, ai, st, fo, an, bo, tc, oc, ac, a1, a2, a3, a4, a5, a6, a7, a8, a9, a10, a11, a12, a13, a14, a15, a16, a17, a18, a19, a20, a21, a22, a23, a24, a25⟩ := u'
      refine tk_atom1 (v := 1) hk rfl rfl rfl (by decide) (by decide) (by decide) (by decide) (by decide) (by decide) (fun u' hk => ?_)
      obtain ⟨lv, qu, ai, st, fo, an, bo, tc, oc, ac, a1, a2, a3, a4, a5, a6, a7, a8, a9, a10, a11, a12, a13, a14, a15, a16, a17, a18, a19, a20, a21, a22, a23, a24, a25⟩ := u'
      refine tk_atom1 (v := 7) hk rfl rfl rfl (by decide) (by decide) (by decide) (by decide) (by decide) (by decide) (fun u' hk => ?_)
      obtain ⟨lv, qu, ai, st, fo, an, bo, tc, oc, ac, a1, a2, a3, a4, a5, a6, a7, a8, a9, a10, a11, a12, a13, a14, a15, a16, a17, a18, a19, a20, a21, a22, a23, a24, a25⟩ := u'
      refine tk_atom1 (v := 10) hk rfl rfl rfl (by decide) (by decide) (by decide) (by decide) (by decide) (by decide) (fun u' hk => ?_)
      obtain ⟨lv, qu, ai, st, fo, an, bo, tc, oc, ac, a1, a2, a3, a4, a5, a6, a7, a8, a9, a10, a11, a12, a13, a14, a15, a16, a17, a18, a19, a20, a21, a22, a23, a24, a25⟩ := u'
      refine br_t (by decide) (tk_ask0 (v := 5) hk rfl rfl (by decide) (fun u' hk => ?_))
      obtain ⟨lv, qu, ai, st, fo, an, bo, tc, oc, ac, a1, a2, a3, a4, a5, a6, a7, a8, a9, a10, a11, a12, a13, a14, a15, a16, a17, a18, a19, a20, a21, a22, a23, a24, a25⟩ := u'
      refine br_f (by decide) (tk_ask1 (v := 5) hk rfl rfl (by decide) (fun u' hk => ?_))
      obtain ⟨lv, qu, ai, st, fo, an, bo, tc, oc, ac, a1, a2, a3, a4, a5, a6, a7, a8, a9, a10, a11, a12, a13, a14, a15, a16, a17, a18, a19, a20, a21, a22, a23, a24, a25⟩ := u'
      obtain ⟨j1, hj1, e1⟩ := pk_andE x1 (m := 255) 8 (by decide)
      refine br_f (by decide) ⟨by decide, nm_r (e' := nI (j1 % 5)) (by rw [e1]; exact pk_rem (a := j1) (d := 5) (by omega) (by decide) (by decide)) ?_⟩
      exact tl_213 (p := j1 % 5) hp (Nat.mod_lt _ (by decide)) hk rfl
    · intro f k s hkk hs hw
      obtain ⟨x4, lv, qu, ai, st, fo, an, bo, tc, oc, ac, a1, a2, a3, a4, a5, a6, a7, a8, a9, a10, a11, a12, a13, a14, a15, a16, a17, a18, a19, a20, a21, a22, a23, a24, a25⟩ := s
      obtain ⟨hk, hz⟩ := hs
      dsimp only at hk hz
      have hcle := tj_cnt_le (tj_b x4) 25
      refine br_f (nI_ge (b := 25) hkk (by decide)) (ek_if (tj_bo x0 (show k < 32 by omega)) (fun z => ?_) (fun z => nm_r (nI_1 k) (hw (x4, (lv, qu, ai, st, fo, an, bo, tc, oc, ac, a1, a2, a3, a4, a5, a6, a7, a8, a9, a10, a11, a12, a13, a14, a15, a16, a17, a18, a19, a20, a21, a22, a23, a24, a25)) ⟨hk, fun j h1 h2 => hz j (by omega) h2⟩)))
      have h0 := hz k (Nat.le_refl k) hkk
      refine tk_add (row := k) hk rfl rfl hkk (fun z1 => by rw [h0] at z1; exact absurd z1 (by decide)) (fun _ l => ?_) (fun _ l hc u' hk' => ?_)
      · refine br_t (by rw [l]; decide) (br_t rfl (br_t (by rw [l]; decide) (br_t (by rw [l]; decide) (nm_r (nI_1 k) (hw (x4, (lv, qu, ai, st, fo, an, bo, tc, oc, ac, a1, a2, a3, a4, a5, a6, a7, a8, a9, a10, a11, a12, a13, a14, a15, a16, a17, a18, a19, a20, a21, a22, a23, a24, a25)) ⟨hk, fun j h1 h2 => hz j (by omega) h2⟩)))))
      · obtain ⟨lv, qu, ai, st, fo, an, bo, tc, oc, ac, a1, a2, a3, a4, a5, a6, a7, a8, a9, a10, a11, a12, a13, a14, a15, a16, a17, a18, a19, a20, a21, a22, a23, a24, a25⟩ := u'
        have n16 : ¬ (16 : Int32) ≤ nI (tj_cnt (tj_b x4) 25) := nI_ge (b := 16) l (by decide)
        refine br_f n16 (br_t rfl (br_f n16 (nm_e (br_f n16 (nm_r (e' := nI (tj_cnt (tj_b (x4 ||| ((1 : Int32) <<< (nI k &&& 31)))) 25)) (by rw [hc, nI_1]) (nm_r (nI_1 k) (hw (_, (lv, qu, ai, st, fo, an, bo, tc, oc, ac, a1, a2, a3, a4, a5, a6, a7, a8, a9, a10, a11, a12, a13, a14, a15, a16, a17, a18, a19, a20, a21, a22, a23, a24, a25)) ⟨hk', fun j h1 h2 => ?_⟩)))))))
        dsimp only
        rw [tj_or, tj_shl1 k (by omega) j (by omega), hz j (by omega) h2, decide_eq_false (by omega), Bool.false_or]
  rw [hc0] at main
  exact main
theorem tl_lawOf {x0 x1 x2 : Int32} (hp : post 1 ()) : wpL_lawOf post 26 714 () x0 x1 x2 := by
  refine ⟨by decide, by decide, 25, 679, by decide, by decide, ?_⟩
  have hk : tj_KK (2, 0, 0, 0, 0, 0, 0, 0, 0, 0, (fun _ => 0), (fun _ => 0), (fun _ => 0), (fun _ => 0), (fun _ => 0), (fun _ => 0), (fun _ => 0), (fun _ => 0), (fun _ => 0), (fun _ => 0), (fun _ => 0), (fun _ => 0), (fun _ => 0), (fun _ => 0), (fun _ => 0), (fun _ => 0), (fun _ => 0), (fun _ => 0), (fun _ => 0), (fun _ => 0), (fun _ => 0), (fun _ => 0), (fun _ => 0), (fun _ => 0), (fun _ => 0)) (tj_b 0) 0 0 0 0 := by
    have hc : tj_cnt (tj_b 0) 25 = 0 := tj_cnt_zero (fun j _ => tj_0 j)
    have hq : ∀ (a4 a5 : Nat → Int32) (q : Nat) (P Q : Nat → Nat), tj_QA a4 a5 q (2 ^ 0 - 1) P Q := fun a4 a5 q P Q i _ hb => absurd hb (by
      show ¬ (0 : Nat).testBit i = true
      rw [Nat.zero_testBit]; decide)
    refine ⟨rfl, fun row _ => ?_, fun k _ _ => rfl, by omega, by rw [hc]; rfl, rfl, rfl, rfl, hq _ _ _ _ _, hq _ _ _ _ _, rfl, rfl, fun k _ => ⟨0, by decide, rfl⟩⟩
    show tj_h 0 row = tj_b 0 row
    rw [tj_h_0, tj_0]
  have h := tl_17 (mc := 26) (ms := 714) (kc := 1 + 25) (ks := 35 + 679) (x0 := x0) (x1 := x1) (x2 := x2) hp hk
  exact ⟨by decide, by decide, by decide, by decide, by decide, by decide, by decide, by decide, by decide, by decide, by decide, by decide, by decide, by decide, by decide, by decide, by decide, by decide, by decide, by decide, by decide, by decide, by decide, by decide, by decide, by decide, by decide, by decide, by decide, by decide, by decide, by decide, by decide, by decide, by decide, by decide, by decide, by decide, by decide, by decide, by decide, by decide, by decide, by decide, by decide, by decide, by decide, by decide, by decide, by decide, h⟩
theorem tl_cell {po : Int32 → Prop} {L i : Nat} {xs : Nat → Int32} {x : Int32} (hL : L ≤ 3) (hx : x = nI i) (hi : i < 3) (H : ∀ r, po r) : wpL_cellAt po L xs () x := by
  subst hx
  exact pk_le L i (fun _ => H 0) (fun z => ⟨vp_in_nI z (by omega), H _⟩)
end
theorem i_vc (xs : Nat → Int32) (L : Nat) (hL : L ≤ 3) : wpL_law (fun r => r = 1) L xs := by
  refine tl_cell (i := 0) hL rfl (by decide) (fun r1 => tl_cell (i := 1) hL rfl (by decide) (fun r2 => tl_cell (i := 2) hL rfl (by decide) (fun r3 => ⟨26, 714, by decide, by decide, tl_lawOf rfl⟩)))
end
