section
/-! bits of an Int32: gb_t x i (the first rows are turned from the family bt of kit/laws/BITS.to-paste) -/
def gb_t (x : Int32) (i : Nat) : Bool := x.toBitVec.getLsbD i
theorem gb_ext {x y : Int32} (h : ∀ i, i < 32 → gb_t x i = gb_t y i) : x = y := Int32.toBitVec_inj.mp (BitVec.eq_of_getLsbD_eq (fun i hi => h i hi))
theorem gb_or (x y : Int32) (i : Nat) : gb_t (x ||| y) i = (gb_t x i || gb_t y i) := by unfold gb_t; rw [Int32.toBitVec_or, BitVec.getLsbD_or]
theorem gb_and (x y : Int32) (i : Nat) : gb_t (x &&& y) i = (gb_t x i && gb_t y i) := by unfold gb_t; rw [Int32.toBitVec_and, BitVec.getLsbD_and]
theorem gb_xor (x y : Int32) (i : Nat) : gb_t (x ^^^ y) i = (gb_t x i ^^ gb_t y i) := by unfold gb_t; rw [Int32.toBitVec_xor, BitVec.getLsbD_xor]
theorem gb_m1 : ∀ i, i < 32 → gb_t (-1) i = true := by decide +kernel
theorem gb_0 (i : Nat) : gb_t 0 i = false := BitVec.getLsbD_zero
theorem gb_sl : ∀ n, n < 32 → ((nI n &&& 31).toBitVec.smod 32).toNat = n := by decide +kernel
theorem gb_su : ∀ n, n < 32 → (((nI n).toUInt32 &&& Int32.toUInt32 31).toBitVec % 32).toNat = n := by decide +kernel
theorem gb_ushr (n : Nat) (hn : n < 32) (x : Int32) (i : Nat) : gb_t ((x.toUInt32 >>> ((nI n).toUInt32 &&& Int32.toUInt32 31)).toInt32) i = gb_t x (n + i) := by
  show (x.toUInt32 >>> ((nI n).toUInt32 &&& Int32.toUInt32 31)).toBitVec.getLsbD i = x.toUInt32.toBitVec.getLsbD (n + i)
  rw [UInt32.toBitVec_shiftRight]
  show (x.toUInt32.toBitVec >>> (((nI n).toUInt32 &&& Int32.toUInt32 31).toBitVec % 32).toNat).getLsbD i = _
  rw [gb_su n hn, BitVec.getLsbD_ushiftRight]
theorem gb_sshr (n : Nat) (hn : n < 32) (x : Int32) {i : Nat} (hi : i < 32) : gb_t (x >>> (nI n &&& 31)) i = if n + i < 32 then gb_t x (n + i) else gb_t x 31 := by
  unfold gb_t
  rw [Int32.toBitVec_shiftRight]
  show (x.toBitVec.sshiftRight ((nI n &&& 31).toBitVec.smod 32).toNat).getLsbD i = _
  rw [gb_sl n hn, BitVec.getLsbD_sshiftRight, BitVec.msb_eq_getLsbD_last]
  simp [hi]
theorem gb_one : ∀ n, n < 32 → ∀ i, i < 32 → gb_t ((1 : Int32) <<< (nI n &&& 31)) i = decide (i = n) := by decide +kernel
theorem gb_1 : ∀ i, i < 32 → gb_t 1 i = decide (i = 0) := by decide +kernel
/-- the lowest bit -/
theorem gb_b1 (x : Int32) : x &&& 1 = if gb_t x 0 = true then 1 else 0 := by
  apply gb_ext
  intro i hi
  rw [gb_and, gb_1 i hi]
  cases hx : gb_t x 0
  · rw [if_neg (by decide), gb_0]
    by_cases h : i = 0
    · rw [h, hx]; rfl
    · rw [decide_eq_false h, Bool.and_false]
  · rw [if_pos rfl, gb_1 i hi]
    by_cases h : i = 0
    · rw [h, hx]; rfl
    · rw [decide_eq_false h, Bool.and_false]
theorem gb_sr (x : Int32) {n : Nat} (hn : n < 32) : (x >>> (nI n &&& 31)) &&& 1 = if gb_t x n = true then 1 else 0 := by
  rw [gb_b1, gb_sshr n hn x (show 0 < 32 by omega), Nat.add_zero, if_pos hn]
theorem gb_ur (x : Int32) {n : Nat} (hn : n < 32) : ((x.toUInt32 >>> ((nI n).toUInt32 &&& Int32.toUInt32 31)).toInt32) &&& 1 = if gb_t x n = true then 1 else 0 := by
  rw [gb_b1, gb_ushr n hn x 0, Nat.add_zero]
theorem gb_tst (x : Int32) {n : Nat} (hn : n < 32) : x &&& ((1 : Int32) <<< (nI n &&& 31)) = 0 ↔ gb_t x n = false := by
  constructor
  · intro h
    have h2 : gb_t (x &&& ((1 : Int32) <<< (nI n &&& 31))) n = gb_t 0 n := congrArg (fun y => gb_t y n) h
    rw [gb_and, gb_one n hn n hn, decide_eq_true (rfl : n = n), Bool.and_true, gb_0] at h2
    exact h2
  · intro h
    apply gb_ext
    intro i hi
    rw [gb_and, gb_one n hn i hi, gb_0]
    by_cases e : i = n
    · rw [e, h, Bool.false_and]
    · rw [decide_eq_false e, Bool.and_false]
/-- a branch on one bit -/
theorem gb_br {A B : Prop} {x : Int32} {b : Bool} (hx : x = if b = true then 1 else 0) (f : b = true → A) (g : b = false → B) : (x = 1 → A) ∧ (¬ x = 1 → B) := by
  subst hx
  cases b
  · exact ⟨fun z => absurd z (by decide), fun _ => g rfl⟩
  · exact ⟨fun _ => f rfl, fun z => absurd rfl z⟩
theorem gb_n31 {d : Nat} (h : d < 2 ^ 31) : nI d &&& 31 = nI (d % 32) := pk_andN (by omega) 5 (by decide)
theorem gb_d32 {d : Nat} (h : d < 2 ^ 31) : nI d >>> ((5 : Int32) &&& 31) = nI (d / 32) := pk_shrN h _ 5 (by decide)
/-! an array of words as a set of numbers -/
def gl_b (a : Nat → Int32) (d : Nat) : Bool := gb_t (a (d / 32)) (d % 32)
theorem gl_set (a : Nat → Int32) (d e : Nat) : gl_b (upd a (d / 32) (a (d / 32) ||| ((1 : Int32) <<< (nI (d % 32) &&& 31)))) e = (gl_b a e || decide (e = d)) := by
  unfold gl_b
  by_cases h : e / 32 = d / 32
  · rw [h, pk_us, gb_or, gb_one (d % 32) (by omega) (e % 32) (by omega)]
    exact congrArg (fun b => gb_t (a (d / 32)) (e % 32) || b) (decide_eq_decide.mpr ⟨fun z => by omega, fun z => by omega⟩)
  · rw [pk_un h, decide_eq_false (show ¬ e = d from fun z => h (by rw [z])), Bool.or_false]
theorem gl_clr (a : Nat → Int32) (d e : Nat) : gl_b (upd a (d / 32) (a (d / 32) &&& (((1 : Int32) <<< (nI (d % 32) &&& 31)) ^^^ (-1)))) e = (gl_b a e && !decide (e = d)) := by
  unfold gl_b
  by_cases h : e / 32 = d / 32
  · rw [h, pk_us, gb_and, gb_xor, gb_one (d % 32) (by omega) (e % 32) (by omega), gb_m1 (e % 32) (by omega), Bool.xor_true]
    exact congrArg (fun b => gb_t (a (d / 32)) (e % 32) && !b) (decide_eq_decide.mpr ⟨fun z => by omega, fun z => by omega⟩)
  · rw [pk_un h, decide_eq_false (show ¬ e = d from fun z => h (by rw [z])), Bool.not_false, Bool.and_true]
/-- how many numbers below k are in a set -/
def gl_n (f : Nat → Bool) : Nat → Nat
  | 0 => 0
  | k + 1 => gl_n f k + (if f k = true then 1 else 0)
theorem gl_n_le (f : Nat → Bool) : ∀ k, gl_n f k ≤ k
  | 0 => Nat.le_refl 0
  | k + 1 => by
    have := gl_n_le f k
    show gl_n f k + (if f k = true then 1 else 0) ≤ k + 1
    split <;> omega
theorem gl_n_eq {f g : Nat → Bool} : ∀ k, (∀ d, d < k → f d = g d) → gl_n f k = gl_n g k
  | 0, _ => rfl
  | k + 1, h => by
    show gl_n f k + (if f k = true then 1 else 0) = gl_n g k + (if g k = true then 1 else 0)
    rw [gl_n_eq k (fun d hd => h d (by omega)), h k (by omega)]
theorem gl_n_set {f g : Nat → Bool} {d : Nat} (h : ∀ e, g e = (f e || decide (e = d))) (hd : f d = false) : ∀ k, gl_n g k = gl_n f k + (if d < k then 1 else 0)
  | 0 => by rw [if_neg (by omega)]; rfl
  | k + 1 => by
    show gl_n g k + (if g k = true then 1 else 0) = gl_n f k + (if f k = true then 1 else 0) + (if d < k + 1 then 1 else 0)
    rw [gl_n_set h hd k, h k]
    by_cases e : k = d
    · subst e
      rw [hd, decide_eq_true (rfl : k = k)]
      simp
    · rw [decide_eq_false e, Bool.or_false]
      by_cases z : d < k
      · rw [if_pos z, if_pos (show d < k + 1 by omega)]; omega
      · rw [if_neg z, if_neg (show ¬ d < k + 1 by omega)]; omega
theorem gl_n_0 {f : Nat → Bool} : ∀ k, gl_n f k = 0 → ∀ d, d < k → f d = false
  | 0, _, d, hd => absurd hd (by omega)
  | k + 1, h, d, hd => by
    have h' : gl_n f k + (if f k = true then 1 else 0) = 0 := h
    by_cases e : d = k
    · subst e
      cases hf : f d
      · rfl
      · rw [hf, if_pos rfl] at h'; omega
    · exact gl_n_0 k (by omega) d (by omega)
end
section
/-! the picture: gl_A i j: places i to j hold the one letter w (two rules); descriptors (label, node, place) as one number gl_e -/
def gl_A (cn n : Nat) (t : Nat → Int32) (w : Int32) (i j : Nat) : Prop := cn = 2 ∧ i < j ∧ j ≤ n ∧ ∀ k, i ≤ k → k < j → t k = w
theorem gl_Atr {cn n : Nat} {t : Nat → Int32} {w : Int32} {i j k : Nat} (h1 : gl_A cn n t w i j) (h2 : gl_A cn n t w j k) : gl_A cn n t w i k :=
  ⟨h1.1, Nat.lt_trans h1.2.1 h2.2.1, h2.2.2.1, fun x hx hx2 => by
    rcases Nat.lt_or_ge x j with z | z
    · exact h1.2.2.2 x hx z
    · exact h2.2.2.2 x z hx2⟩
def gl_e (l nd p : Nat) : Nat := (l * 45 + nd) * 9 + p
theorem gl_e1 {l nd p : Nat} (h1 : nd < 45) (h2 : p < 9) : gl_e l nd p / 405 = l := by unfold gl_e; omega
theorem gl_e2 {l nd p : Nat} (h1 : nd < 45) (h2 : p < 9) : gl_e l nd p / 9 % 45 = nd := by unfold gl_e; omega
theorem gl_e3 {l nd p : Nat} (h1 : nd < 45) (h2 : p < 9) : gl_e l nd p % 9 = p := by unfold gl_e; omega
theorem gl_e4 (d : Nat) : gl_e (d / 405) (d / 9 % 45) (d % 9) = d := by unfold gl_e; omega
/-- which descriptors may be seen -/
def gl_D (cn n : Nat) (t : Nat → Int32) (w : Int32) (l nd p : Nat) : Prop := nd ≤ n ∧ ((l = 0 ∧ p = nd) ∨ ((l = 1 ∨ l = 2 ∨ l = 5) ∧ gl_A cn n t w nd p) ∨ (cn = 2 ∧ l = 4 ∧ p = nd))
/-- which callers (label, node) may wait for a node m -/
def gl_C (cn n : Nat) (t : Nat → Int32) (w : Int32) (m l cl : Nat) : Prop := m ≤ n ∧ cl ≤ n ∧ ((l = 1 ∧ cl = m) ∨ (l = 2 ∧ gl_A cn n t w cl m))
theorem gl_Db {cn n : Nat} {t : Nat → Int32} {w : Int32} {l nd p : Nat} (hn : n ≤ 8) (h : gl_D cn n t w l nd p) : l ≤ 5 ∧ nd ≤ 8 ∧ p ≤ 8 := by
  obtain ⟨h1, ⟨h2, h3⟩ | ⟨h2, h3⟩ | ⟨_, h2, h3⟩⟩ := h
  · omega
  · have := h3.2.2.1
    omega
  · omega
/-- what holds of a descriptor that was handled -/
def gl_H (n : Nat) (t : Nat → Int32) (w : Int32) (a5 a7 a8 : Nat → Int32) (d : Nat) : Prop :=
  (d / 405 = 0 → gl_b a7 (2176 * (d % 9) + (45 + d / 9 % 45)) = true) ∧
  (d / 405 = 1 → gl_b a7 (2176 * (d % 9) + (90 + d / 9 % 45)) = true) ∧
  ((d / 405 = 2 ∨ d / 405 = 5) → gl_b a8 (32 * (d / 9 % 45) + d % 9) = true) ∧
  (d / 405 = 4 → d % 9 < n → t (d % 9) = w → gl_b a5 (gl_e 5 (d / 9 % 45) (d % 9 + 1)) = true)
theorem gl_Hm {n : Nat} {t : Nat → Int32} {w : Int32} {a5 a7 a8 b5 b7 b8 : Nat → Int32} {d : Nat} (h : gl_H n t w a5 a7 a8 d) (h5 : ∀ e, gl_b a5 e = true → gl_b b5 e = true) (h7 : ∀ e, gl_b a7 e = true → gl_b b7 e = true) (h8 : ∀ e, gl_b a8 e = true → gl_b b8 e = true) : gl_H n t w b5 b7 b8 d :=
  ⟨fun z => h7 _ (h.1 z), fun z => h7 _ (h.2.1 z), fun z => h8 _ (h.2.2.1 z), fun z z2 z3 => h5 _ (h.2.2.2 z z2 z3)⟩
/-- the invariant. ex: descriptors excused from being seen; hx: excused from being handled; ox: nodes excused from having begun; h: how many were handled -/
def gl_I (cn n : Nat) (t : Nat → Int32) (w : Int32) (i0 h : Nat) (ex hx ox : Nat → Prop) (o : Int32) (a5 a6 a7 a8 a9 : Nat → Int32) : Prop :=
  (∀ d, d < 19456 → gl_b a5 d = true → gl_D cn n t w (d / 405) (d / 9 % 45) (d % 9)) ∧
  (∀ d, d < 19456 → gl_b a6 d = true → gl_b a5 d = true) ∧
  o = nI (gl_n (gl_b a6) 2112) ∧
  gl_n (gl_b a5) 2112 = gl_n (gl_b a6) 2112 + h ∧
  (∀ m p, m < 45 → p < 32 → gl_b a8 (32 * m + p) = true → gl_A cn n t w m p) ∧
  (∀ m k, m < 45 → k < 2160 → gl_b a7 (2176 * m + k) = true → gl_C cn n t w m (k / 45) (k % 45)) ∧
  (∀ m, m < 9 → ¬ a9 m = 0 → (gl_b a5 (gl_e 0 m m) = true ∨ ex (gl_e 0 m m)) ∧ (cn = 2 → (gl_b a5 (gl_e 4 m m) = true ∨ ex (gl_e 4 m m)))) ∧
  (∀ d, d < 19456 → gl_b a5 d = true → gl_b a6 d = false → hx d ∨ gl_H n t w a5 a7 a8 d) ∧
  (∀ m k p, m < 9 → k < 2160 → p < 9 → gl_b a7 (2176 * m + k) = true → gl_b a8 (32 * m + p) = true → (gl_b a5 (gl_e (k / 45) (k % 45) p) = true ∨ ex (gl_e (k / 45) (k % 45) p))) ∧
  (∀ m, m < 9 → (m = i0 ∨ ∃ k, k < 2160 ∧ gl_b a7 (2176 * m + k) = true) → (¬ a9 m = 0 ∨ ox m))
section
variable {cn n : Nat} {t : Nat → Int32} {w : Int32} {i0 h : Nat} {ex hx ox : Nat → Prop} {o : Int32} {a5 a6 a7 a8 a9 b5 b6 b7 b8 b9 : Nat → Int32}
theorem gl_Iex {ex' : Nat → Prop} (hI : gl_I cn n t w i0 h ex hx ox o a5 a6 a7 a8 a9) (hm : ∀ e, ex e → ex' e) : gl_I cn n t w i0 h ex' hx ox o a5 a6 a7 a8 a9 := by
  obtain ⟨h1, h2, h3, h4, h5, h6, h7, h8, h9, h10⟩ := hI
  exact ⟨h1, h2, h3, h4, h5, h6, fun m hm1 hm2 => ⟨(h7 m hm1 hm2).1.imp_right (hm _), fun z => ((h7 m hm1 hm2).2 z).imp_right (hm _)⟩, h8, fun m k p z1 z2 z3 z4 z5 => (h9 m k p z1 z2 z3 z4 z5).imp_right (hm _), h10⟩
theorem gl_Iox {ox' : Nat → Prop} (hI : gl_I cn n t w i0 h ex hx ox o a5 a6 a7 a8 a9) (hm : ∀ e, ox e → ox' e) : gl_I cn n t w i0 h ex hx ox' o a5 a6 a7 a8 a9 := by
  obtain ⟨h1, h2, h3, h4, h5, h6, h7, h8, h9, h10⟩ := hI
  exact ⟨h1, h2, h3, h4, h5, h6, h7, h8, h9, fun m z1 z2 => (h10 m z1 z2).imp_right (hm _)⟩
theorem gl_Ihx (hI : gl_I cn n t w i0 h ex hx ox o a5 a6 a7 a8 a9) (hm : ∀ e, hx e → gl_H n t w a5 a7 a8 e) : gl_I cn n t w i0 h ex (fun _ => False) ox o a5 a6 a7 a8 a9 := by
  obtain ⟨h1, h2, h3, h4, h5, h6, h7, h8, h9, h10⟩ := hI
  exact ⟨h1, h2, h3, h4, h5, h6, h7, fun d z1 z2 z3 => (h8 d z1 z2 z3).elim (fun q => Or.inr (hm d q)) Or.inr, h9, h10⟩
/-- a seen descriptor is a small number -/
theorem gl_Isml (hn : n ≤ 8) (hI : gl_I cn n t w i0 h ex hx ox o a5 a6 a7 a8 a9) {d : Nat} (hd : d < 19456) (hb : gl_b a5 d = true) : d < 2112 := by
  have := gl_Db hn (hI.1 d hd hb)
  omega
theorem gl_Ih (hI : gl_I cn n t w i0 h ex hx ox o a5 a6 a7 a8 a9) : h ≤ 2112 := by
  have h4 := hI.2.2.2.1
  have := gl_n_le (gl_b a5) 2112
  omega
/-- add: a descriptor that is seen already -/
theorem gl_Iold {d : Nat} (hI : gl_I cn n t w i0 h ex hx ox o a5 a6 a7 a8 a9) (hb : gl_b a5 d = true) : gl_I cn n t w i0 h (fun e => ex e ∧ e ≠ d) hx ox o a5 a6 a7 a8 a9 := by
  obtain ⟨h1, h2, h3, h4, h5, h6, h7, h8, h9, h10⟩ := hI
  have exm : ∀ e, gl_b a5 e = true ∨ ex e → gl_b a5 e = true ∨ (ex e ∧ e ≠ d) := by
    intro e z
    by_cases q : e = d
    · left
      rw [q]
      exact hb
    · exact z.imp_right (fun z => ⟨z, q⟩)
  exact ⟨h1, h2, h3, h4, h5, h6, fun m hm1 hm2 => ⟨exm _ (h7 m hm1 hm2).1, fun z => exm _ ((h7 m hm1 hm2).2 z)⟩, h8, fun m k p z1 z2 z3 z4 z5 => exm _ (h9 m k p z1 z2 z3 z4 z5), h10⟩
/-- add: a new descriptor -/
theorem gl_Inew {l nd p d : Nat} (hn : n ≤ 8) (hI : gl_I cn n t w i0 h ex hx ox o a5 a6 a7 a8 a9) (hD : gl_D cn n t w l nd p) (hd : d = gl_e l nd p) (hb : gl_b a5 d = false)
    (k5 : ∀ e, gl_b b5 e = (gl_b a5 e || decide (e = d))) (k6 : ∀ e, gl_b b6 e = (gl_b a6 e || decide (e = d))) : gl_I cn n t w i0 h (fun e => ex e ∧ e ≠ d) hx ox (o + 1) b5 b6 a7 a8 a9 := by
  obtain ⟨q1, q2, q3⟩ := gl_Db hn hD
  have hd2 : d < 2112 := by rw [hd]; unfold gl_e; omega
  obtain ⟨h1, h2, h3, h4, h5, h6, h7, h8, h9, h10⟩ := hI
  have mono : ∀ e, gl_b a5 e = true → gl_b b5 e = true := fun e z => by rw [k5, z, Bool.true_or]
  have got : gl_b b5 d = true := by rw [k5, decide_eq_true (rfl : d = d), Bool.or_true]
  have got6 : gl_b b6 d = true := by rw [k6, decide_eq_true (rfl : d = d), Bool.or_true]
  have old : ∀ e, e ≠ d → gl_b b5 e = gl_b a5 e := fun e z => by rw [k5, decide_eq_false z, Bool.or_false]
  have old6 : ∀ e, e ≠ d → gl_b b6 e = gl_b a6 e := fun e z => by rw [k6, decide_eq_false z, Bool.or_false]
  have hb6 : gl_b a6 d = false := by
    cases z : gl_b a6 d
    · rfl
    · rw [h2 d (by omega) z] at hb
      exact hb
  have exm : ∀ e, gl_b a5 e = true ∨ ex e → gl_b b5 e = true ∨ (ex e ∧ e ≠ d) := by
    intro e z
    by_cases q : e = d
    · left
      rw [q]
      exact got
    · exact z.elim (fun z => Or.inl (mono e z)) (fun z => Or.inr ⟨z, q⟩)
  have c5 := gl_n_set k5 hb 2112
  have c6 := gl_n_set k6 hb6 2112
  rw [if_pos hd2] at c5 c6
  refine ⟨fun e z1 z2 => ?_, fun e z1 z2 => ?_, ?_, by omega, h5, h6, fun m hm1 hm2 => ⟨exm _ (h7 m hm1 hm2).1, fun z => exm _ ((h7 m hm1 hm2).2 z)⟩, fun e z1 z2 z3 => ?_, fun m k p z1 z2 z3 z4 z5 => exm _ (h9 m k p z1 z2 z3 z4 z5), h10⟩
  · by_cases q : e = d
    · rw [q, hd, gl_e1 (by omega) (by omega), gl_e2 (by omega) (by omega), gl_e3 (by omega) (by omega)]
      exact hD
    · rw [old e q] at z2
      exact h1 e z1 z2
  · by_cases q : e = d
    · rw [q]
      exact got
    · rw [old6 e q] at z2
      exact mono e (h2 e z1 z2)
  · rw [c6, h3, nI_1]
  · by_cases q : e = d
    · rw [q, got6] at z3
      exact absurd z3 (by decide)
    · rw [old e q] at z2
      rw [old6 e q] at z3
      exact (h8 e z1 z2 z3).imp_right (fun g => gl_Hm g mono (fun _ g => g) (fun _ g => g))
/-- finish: an end is noted -/
theorem gl_Ifin {m p : Nat} (hI : gl_I cn n t w i0 h (fun _ => False) hx ox o a5 a6 a7 a8 a9) (hA : gl_A cn n t w m p) (hn : n ≤ 8)
    (k8 : ∀ e, gl_b b8 e = (gl_b a8 e || decide (e = 32 * m + p))) : gl_I cn n t w i0 h (fun e => ∃ k, 0 ≤ k ∧ k < 2160 ∧ gl_b a7 (2176 * m + k) = true ∧ e = gl_e (k / 45) (k % 45) p) hx ox o a5 a6 a7 b8 a9 := by
  obtain ⟨h1, h2, h3, h4, h5, h6, h7, h8, h9, h10⟩ := hI
  have g1 := hA.2.1
  have g2 := hA.2.2.1
  have mono : ∀ e, gl_b a8 e = true → gl_b b8 e = true := fun e z => by rw [k8, z, Bool.true_or]
  have old : ∀ e, e ≠ 32 * m + p → gl_b b8 e = gl_b a8 e := fun e z => by rw [k8, decide_eq_false z, Bool.or_false]
  refine ⟨h1, h2, h3, h4, fun m' p' z1 z2 z3 => ?_, h6, fun m' z1 z2 => ⟨(h7 m' z1 z2).1.imp_right False.elim, fun z => ((h7 m' z1 z2).2 z).imp_right False.elim⟩, fun d z1 z2 z3 => (h8 d z1 z2 z3).imp_right (fun g => gl_Hm g (fun _ g => g) (fun _ g => g) mono), fun m' k p' z1 z2 z3 z4 z5 => ?_, h10⟩
  · by_cases q : 32 * m' + p' = 32 * m + p
    · have e1 : m' = m := by omega
      have e2 : p' = p := by omega
      rw [e1, e2]
      exact hA
    · rw [old _ q] at z3
      exact h5 m' p' z1 z2 z3
  · by_cases q : 32 * m' + p' = 32 * m + p
    · have e1 : m' = m := by omega
      have e2 : p' = p := by omega
      subst e1 e2
      exact Or.inr ⟨k, Nat.zero_le k, z2, z4, rfl⟩
    · rw [old _ q] at z5
      exact (h9 m' k p' z1 z2 z3 z4 z5).imp_right False.elim
/-- attend: a caller is noted -/
theorem gl_Iatt {m l cl : Nat} (hI : gl_I cn n t w i0 h (fun _ => False) hx (fun _ => False) o a5 a6 a7 a8 a9) (hC : gl_C cn n t w m l cl) (hn : n ≤ 8)
    (k7 : ∀ e, gl_b b7 e = (gl_b a7 e || decide (e = 2176 * m + (l * 45 + cl)))) : gl_I cn n t w i0 h (fun e => ∃ q, 0 ≤ q ∧ q < 9 ∧ gl_b a8 (32 * m + q) = true ∧ e = gl_e l cl q) hx (fun x => x = m) o a5 a6 b7 a8 a9 := by
  obtain ⟨h1, h2, h3, h4, h5, h6, h7, h8, h9, h10⟩ := hI
  have g1 := hC.1
  have g2 := hC.2.1
  have g3 : l ≤ 2 := by
    rcases hC.2.2 with z | z <;> omega
  have mono : ∀ e, gl_b a7 e = true → gl_b b7 e = true := fun e z => by rw [k7, z, Bool.true_or]
  have old : ∀ e, e ≠ 2176 * m + (l * 45 + cl) → gl_b b7 e = gl_b a7 e := fun e z => by rw [k7, decide_eq_false z, Bool.or_false]
  refine ⟨h1, h2, h3, h4, h5, fun m' k z1 z2 z3 => ?_, fun m' z1 z2 => ⟨(h7 m' z1 z2).1.imp_right False.elim, fun z => ((h7 m' z1 z2).2 z).imp_right False.elim⟩, fun d z1 z2 z3 => (h8 d z1 z2 z3).imp_right (fun g => gl_Hm g (fun _ g => g) mono (fun _ g => g)), fun m' k p' z1 z2 z3 z4 z5 => ?_, fun m' z1 z2 => ?_⟩
  · by_cases q : 2176 * m' + k = 2176 * m + (l * 45 + cl)
    · have e1 : m' = m := by omega
      have e2 : k / 45 = l := by omega
      have e3 : k % 45 = cl := by omega
      rw [e1, e2, e3]
      exact hC
    · rw [old _ q] at z3
      exact h6 m' k z1 z2 z3
  · by_cases q : 2176 * m' + k = 2176 * m + (l * 45 + cl)
    · have e1 : m' = m := by omega
      have e2 : k / 45 = l := by omega
      have e3 : k % 45 = cl := by omega
      rw [e2, e3]
      rw [e1] at z5
      exact Or.inr ⟨p', Nat.zero_le _, z3, z5, rfl⟩
    · rw [old _ q] at z4
      exact (h9 m' k p' z1 z2 z3 z4 z5).imp_right False.elim
  · by_cases q : m' = m
    · exact Or.inr q
    · refine (h10 m' z1 (z2.imp_right (fun ⟨k, y1, y2⟩ => ⟨k, y1, ?_⟩))).imp_right False.elim
      rw [old _ (by omega)] at y2
      exact y2
/-- call: a node is begun -/
theorem gl_Iopn {m : Nat} (hI : gl_I cn n t w i0 h (fun _ => False) hx ox o a5 a6 a7 a8 a9) (hc : cn = 1 ∨ cn = 2) :
    gl_I cn n t w i0 h (fun e => ∃ r, 0 ≤ r ∧ r < cn ∧ e = gl_e (4 * r) m m) hx (fun x => ox x ∧ x ≠ m) o a5 a6 a7 a8 (upd a9 m 1) := by
  obtain ⟨h1, h2, h3, h4, h5, h6, h7, h8, h9, h10⟩ := hI
  refine ⟨h1, h2, h3, h4, h5, h6, fun m' z1 z2 => ?_, h8, fun m' k p z1 z2 z3 z4 z5 => (h9 m' k p z1 z2 z3 z4 z5).imp_right False.elim, fun m' z1 z2 => ?_⟩
  · by_cases q : m' = m
    · subst q
      exact ⟨Or.inr ⟨0, Nat.le_refl 0, by omega, rfl⟩, fun z => Or.inr ⟨1, by omega, by omega, rfl⟩⟩
    · rw [pk_un q] at z2
      exact ⟨(h7 m' z1 z2).1.imp_right False.elim, fun z => ((h7 m' z1 z2).2 z).imp_right False.elim⟩
  · by_cases q : m' = m
    · rw [q, pk_us]
      exact Or.inl (by decide)
    · rw [pk_un q]
      exact (h10 m' z1 z2).imp_right (fun g => ⟨g, q⟩)
theorem gl_Iop0 {m : Nat} (hI : gl_I cn n t w i0 h ex hx ox o a5 a6 a7 a8 a9) (hm : ¬ a9 m = 0) : gl_I cn n t w i0 h ex hx (fun x => ox x ∧ x ≠ m) o a5 a6 a7 a8 a9 := by
  obtain ⟨h1, h2, h3, h4, h5, h6, h7, h8, h9, h10⟩ := hI
  refine ⟨h1, h2, h3, h4, h5, h6, h7, h8, h9, fun m' z1 z2 => ?_⟩
  by_cases q : m' = m
  · rw [q]
    exact Or.inl hm
  · exact (h10 m' z1 z2).imp_right (fun g => ⟨g, q⟩)
/-- handleWord: a descriptor is taken out to be handled -/
theorem gl_Iclr {d : Nat} (hn : n ≤ 8) (hI : gl_I cn n t w i0 h ex (fun _ => False) ox o a5 a6 a7 a8 a9) (hd : d < 19456) (hb : gl_b a6 d = true)
    (k6 : ∀ e, gl_b b6 e = (gl_b a6 e && !decide (e = d))) : gl_I cn n t w i0 (h + 1) ex (fun e => e = d) ox (o - 1) a5 b6 a7 a8 a9 := by
  have hs := gl_Isml hn hI hd (hI.2.1 d hd hb)
  obtain ⟨h1, h2, h3, h4, h5, h6, h7, h8, h9, h10⟩ := hI
  have off : gl_b b6 d = false := by rw [k6, decide_eq_true (rfl : d = d), Bool.not_true, Bool.and_false]
  have old : ∀ e, e ≠ d → gl_b b6 e = gl_b a6 e := fun e z => by rw [k6, decide_eq_false z, Bool.not_false, Bool.and_true]
  have c6 := gl_n_set (f := gl_b b6) (g := gl_b a6) (d := d) (fun e => by
    by_cases q : e = d
    · rw [q, hb, decide_eq_true (rfl : d = d), Bool.or_true]
    · rw [old e q, decide_eq_false q, Bool.or_false]) off 2112
  rw [if_pos hs] at c6
  refine ⟨h1, fun e z1 z2 => ?_, ?_, by omega, h5, h6, h7, fun e z1 z2 z3 => ?_, h9, h10⟩
  · by_cases q : e = d
    · rw [q, off] at z2
      exact absurd z2 (by decide)
    · rw [old e q] at z2
      exact h2 e z1 z2
  · rw [h3, c6, nI_pred]
  · by_cases q : e = d
    · exact Or.inl q
    · rw [old e q] at z3
      exact (h8 e z1 z2 z3).imp_left False.elim
/-- start: all is empty -/
theorem gl_I0 (k5 : ∀ k, k < 608 → a5 k = 0) (k6 : ∀ k, k < 608 → a6 k = 0) (k7 : ∀ k, k < 3060 → a7 k = 0) (k8 : ∀ k, k < 45 → a8 k = 0) (k9 : ∀ k, k < 45 → a9 k = 0) : gl_I cn n t w i0 0 (fun _ => False) (fun _ => False) (fun x => x = i0) 0 a5 a6 a7 a8 a9 := by
  have z5 : ∀ d, d < 19456 → gl_b a5 d = false := fun d hd => by unfold gl_b; rw [k5 (d / 32) (by omega), gb_0]
  have z6 : ∀ d, d < 19456 → gl_b a6 d = false := fun d hd => by unfold gl_b; rw [k6 (d / 32) (by omega), gb_0]
  have z7 : ∀ m k, m < 45 → k < 2160 → gl_b a7 (2176 * m + k) = false := fun m k hm hk => by unfold gl_b; rw [k7 ((2176 * m + k) / 32) (by omega), gb_0]
  have z8 : ∀ m p, m < 45 → p < 32 → gl_b a8 (32 * m + p) = false := fun m k hm hk => by unfold gl_b; rw [k8 ((32 * m + k) / 32) (by omega), gb_0]
  have n5 : gl_n (gl_b a5) 2112 = gl_n (fun _ => false) 2112 := gl_n_eq 2112 (fun d hd => z5 d (by omega))
  have n6 : gl_n (gl_b a6) 2112 = gl_n (fun _ => false) 2112 := gl_n_eq 2112 (fun d hd => z6 d (by omega))
  have n0 : ∀ k, gl_n (fun _ => false) k = 0 := by
    intro k
    induction k with
    | zero => rfl
    | succ k ih =>
      show gl_n (fun _ => false) k + (if false = true then 1 else 0) = 0
      rw [ih]
      rfl
  refine ⟨fun d hd hb => ?_, fun d hd hb => ?_, ?_, by omega, fun m p hm hp hb => ?_, fun m k hm hk hb => ?_, fun m hm hb => absurd (k9 m (by omega)) hb, fun d hd hb => ?_, fun m k p hm hk hp hb => ?_, fun m hm hb => ?_⟩
  · rw [z5 d hd] at hb; exact absurd hb (by decide)
  · rw [z6 d hd] at hb; exact absurd hb (by decide)
  · rw [n6, n0]; rfl
  · rw [z8 m p hm hp] at hb; exact absurd hb (by decide)
  · rw [z7 m k hm hk] at hb; exact absurd hb (by decide)
  · rw [z5 d hd] at hb; exact absurd hb (by decide)
  · rw [z7 m k (by omega) hk] at hb; exact absurd hb (by decide)
  · rcases hb with hb | ⟨k, hk, hb⟩
    · exact Or.inr hb
    · rw [z7 m k (by omega) hk] at hb; exact absurd hb (by decide)
/-- at the end: the ends of the root are those of the picture -/
theorem gl_Idone (hn : n ≤ 8) (hi : i0 ≤ n) (hI : gl_I cn n t w i0 h (fun _ => False) (fun _ => False) (fun _ => False) o a5 a6 a7 a8 a9) (h0 : gl_n (gl_b a6) 2112 = 0) {p : Nat} (hp : p < 32) : gl_b a8 (32 * i0 + p) = true ↔ gl_A cn n t w i0 p := by
  have sm : ∀ d, d < 19456 → gl_b a5 d = true → d < 2112 := fun d z1 z2 => gl_Isml hn hI z1 z2
  obtain ⟨h1, h2, h3, h4, h5, h6, h7, h8, h9, h10⟩ := hI
  have pn : ∀ d, d < 19456 → gl_b a6 d = false := by
    intro d hd
    cases z : gl_b a6 d
    · rfl
    · have := gl_n_0 2112 h0 d (sm d hd (h2 d hd z))
      rw [z] at this
      exact this
  have HH : ∀ l nd q, l ≤ 5 → nd ≤ 8 → q ≤ 8 → gl_b a5 (gl_e l nd q) = true → (l = 0 → gl_b a7 (2176 * q + (45 + nd)) = true) ∧ (l = 1 → gl_b a7 (2176 * q + (90 + nd)) = true) ∧ ((l = 2 ∨ l = 5) → gl_b a8 (32 * nd + q) = true) ∧ (l = 4 → q < n → t q = w → gl_b a5 (gl_e 5 nd (q + 1)) = true) := by
    intro l nd q y1 y2 y3 y4
    have hlt : gl_e l nd q < 19456 := by unfold gl_e; omega
    have g := (h8 _ hlt y4 (pn _ hlt)).resolve_left id
    unfold gl_H at g
    rw [gl_e1 (by omega) (by omega), gl_e2 (by omega) (by omega), gl_e3 (by omega) (by omega)] at g
    exact g
  have main : ∀ len i j, j ≤ i + len → ¬ a9 i = 0 → gl_A cn n t w i j → gl_b a8 (32 * i + j) = true := by
    intro len
    induction len with
    | zero =>
      intro i j y1 y2 y3
      have := y3.2.1
      omega
    | succ len ih =>
      intro i j y1 y2 y3
      obtain ⟨q1, q2, q3, q4⟩ := y3
      obtain ⟨s0, s4⟩ := h7 i (by omega) y2
      have s0 := s0.resolve_right id
      have s4 := (s4 q1).resolve_right id
      have s5 := (HH 4 i i (by omega) (by omega) (by omega) s4).2.2.2 rfl (by omega) (q4 i (by omega) q2)
      have e1 := (HH 5 i (i + 1) (by omega) (by omega) (by omega) s5).2.2.1 (Or.inr rfl)
      by_cases ej : j = i + 1
      · rw [ej]
        exact e1
      · have c1 := (HH 0 i i (by omega) (by omega) (by omega) s0).1 rfl
        have s1 := (h9 i (45 + i) (i + 1) (by omega) (by omega) (by omega) c1 e1).resolve_right id
        rw [show (45 + i) / 45 = 1 by omega, show (45 + i) % 45 = i by omega] at s1
        have c2 := (HH 1 i (i + 1) (by omega) (by omega) (by omega) s1).2.1 rfl
        have o1 := (h10 (i + 1) (by omega) (Or.inr ⟨90 + i, by omega, c2⟩)).resolve_right id
        have e2 := ih (i + 1) j (by omega) o1 ⟨q1, by omega, q3, fun k k1 k2 => q4 k (by omega) k2⟩
        have s2 := (h9 (i + 1) (90 + i) j (by omega) (by omega) (by omega) c2 e2).resolve_right id
        rw [show (90 + i) / 45 = 2 by omega, show (90 + i) % 45 = i by omega] at s2
        exact (HH 2 i j (by omega) (by omega) (by omega) s2).2.2.1 (Or.inl rfl)
  constructor
  · exact h5 i0 p (by omega) hp
  · intro hA
    exact main (p + 1) i0 p (by omega) ((h10 i0 (by omega) (Or.inl rfl)).resolve_right id) hA
end
end
section
/-! the walks of one endsOf: add, call, finish, attend, handle -/
/-- the rules: rule 0 is 'name 0: name 0, name 0'; rule 1, where there are two, 'name 0: the letter w' -/
def gl_G (cn : Nat) (w : Int32) (a1 a2 a3 : Nat → Int32) : Prop := (cn = 1 ∨ cn = 2) ∧ a1 0 = 0 ∧ a3 0 = 2 ∧ a2 0 = 0 ∧ a2 1 = 0 ∧ ¬ w < 5 ∧ (cn = 2 → a1 1 = 0 ∧ a3 1 = 1 ∧ a2 3 = w)
theorem gl_CD {cn n : Nat} {t : Nat → Int32} {w : Int32} {m l cl p : Nat} (hC : gl_C cn n t w m l cl) (hA : gl_A cn n t w m p) : gl_D cn n t w l cl p := by
  obtain ⟨c1, c2, ⟨c3, c4⟩ | ⟨c3, c4⟩⟩ := hC
  · subst c4
    exact ⟨c2, Or.inr (Or.inl ⟨Or.inl c3, hA⟩)⟩
  · exact ⟨c2, Or.inr (Or.inl ⟨Or.inr (Or.inl c3), gl_Atr c4 hA⟩)⟩
theorem gl_b8 {a : Nat → Int32} {m p : Nat} (hp : p < 32) : gl_b a (32 * m + p) = gb_t (a m) p := by
  unfold gl_b
  rw [show (32 * m + p) / 32 = m by omega, show (32 * m + p) % 32 = p by omega]
theorem gl_set8 (a : Nat → Int32) {m p : Nat} (hp : p < 32) (e : Nat) : gl_b (upd a m (a m ||| ((1 : Int32) <<< (nI p &&& 31)))) e = (gl_b a e || decide (e = 32 * m + p)) := by
  have := gl_set a (32 * m + p) e
  rw [show (32 * m + p) / 32 = m by omega, show (32 * m + p) % 32 = p by omega] at this
  exact this
theorem gl_clr8 (a : Nat → Int32) {m p : Nat} (hp : p < 32) (e : Nat) : gl_b (upd a m (a m &&& (((1 : Int32) <<< (nI p &&& 31)) ^^^ (-1)))) e = (gl_b a e && !decide (e = 32 * m + p)) := by
  have := gl_clr a (32 * m + p) e
  rw [show (32 * m + p) / 32 = m by omega, show (32 * m + p) % 32 = p by omega] at this
  exact this
theorem gl_Hmk {n : Nat} {t : Nat → Int32} {w : Int32} {a5 a7 a8 : Nat → Int32} {l nd p : Nat} (h1 : nd < 45) (h2 : p < 9)
    (g : (l = 0 → gl_b a7 (2176 * p + (45 + nd)) = true) ∧ (l = 1 → gl_b a7 (2176 * p + (90 + nd)) = true) ∧ ((l = 2 ∨ l = 5) → gl_b a8 (32 * nd + p) = true) ∧ (l = 4 → p < n → t p = w → gl_b a5 (gl_e 5 nd (p + 1)) = true)) : gl_H n t w a5 a7 a8 (gl_e l nd p) := by
  unfold gl_H
  rw [gl_e1 h1 h2, gl_e2 h1 h2, gl_e3 h1 h2]
  exact g
section
variable {cn n : Nat} {t : Nat → Int32} {w : Int32} {i0 h : Nat} {ex hx ox : Nat → Prop} {o c0 s0 : Int32} {a1 a2 a3 a4 a5 a6 a7 a8 a9 : Nat → Int32} {post : St2 → Prop}
theorem gw_add {l nd p : Nat} (hn : n ≤ 8) (hI : gl_I cn n t w i0 h ex hx ox o a5 a6 a7 a8 a9) (hD : gl_D cn n t w l nd p)
    (H : ∀ o' b5 b6, gl_I cn n t w i0 h (fun e => ex e ∧ e ≠ gl_e l nd p) hx ox o' b5 b6 a7 a8 a9 → gl_b b5 (gl_e l nd p) = true → post (c0, s0, o', a1, a2, a3, a4, b5, b6, a7, a8, a9)) :
    wpX_add post (c0, s0, o, a1, a2, a3, a4, a5, a6, a7, a8, a9) (nI l) (nI nd) (nI p) := by
  obtain ⟨q1, q2, q3⟩ := gl_Db hn hD
  have e : (((nI l * 45) + nI nd) * 9) + nI p = nI (gl_e l nd p) := by
    show ((nI l * nI 45 + nI nd) * nI 9) + nI p = _
    rw [pk_mul, nI_add, pk_mul, nI_add]
    rfl
  refine nm_r e ?_
  have hd2 : gl_e l nd p < 2112 := by unfold gl_e; omega
  revert H hd2
  generalize hd : gl_e l nd p = d
  intro H hd2
  rw [gb_n31 (by omega), gb_d32 (by omega), nI_clamp (show d / 32 < 2 ^ 31 by omega)]
  have vi : vp_in (nI (d / 32)) 608 := vp_in_nI (by omega) (by omega)
  refine nm_e ⟨vi, br_c (fun z => ?_) (fun z => ?_)⟩
  · have hb : gl_b a5 d = false := (gb_tst (a5 (d / 32)) (by omega)).mp z
    refine ⟨vi, vi, nm_e ⟨vi, vi, nm_e (nm_e (H _ _ _ (gl_Inew hn hI hD hd.symm hb (gl_set a5 d) (gl_set a6 d)) ?_))⟩⟩
    rw [gl_set, decide_eq_true (rfl : d = d), Bool.or_true]
  · have hb : gl_b a5 d = true := by
      cases q : gl_b a5 d
      · exact absurd ((gb_tst (a5 (d / 32)) (by omega)).mpr q) z
      · rfl
    exact H _ _ _ (gl_Iold hI hb) hb
theorem gw_call19 {m : Nat} (hn : n ≤ 8) (hm : m ≤ n) (hG : gl_G cn w a1 a2 a3) (hI : gl_I cn n t w i0 h (fun e => ∃ r, 0 ≤ r ∧ r < cn ∧ e = gl_e (4 * r) m m) hx ox o a5 a6 a7 a8 a9)
    (H : ∀ o' b5 b6, gl_I cn n t w i0 h (fun _ => False) hx ox o' b5 b6 a7 a8 a9 → post (nI cn, s0, o', a1, a2, a3, a4, b5, b6, a7, a8, a9)) :
    ∃ fu, wX_call_19 post (nI m) fu 0 (nI cn) s0 o a1 a2 a3 a4 a5 a6 a7 a8 a9 := by
  have hc := hG.1
  refine pk_loop (σ := Int32 × (Nat → Int32) × (Nat → Int32)) (fun k r s => wX_call_19 post (nI m) k (nI r) (nI cn) s0 s.1 a1 a2 a3 a4 s.2.1 s.2.2 a7 a8 a9)
    (fun r s => gl_I cn n t w i0 h (fun e => ∃ r', r ≤ r' ∧ r' < cn ∧ e = gl_e (4 * r') m m) hx ox s.1 s.2.1 s.2.2 a7 a8 a9) cn 0 (o, a5, a6) (Nat.zero_le _) hI ?_ ?_
  · intro k s hs
    exact pk_le cn cn (fun _ => H _ _ _ (gl_Iex hs (fun e ⟨r, z1, z2, _⟩ => by omega))) (fun z => absurd z (by omega))
  · intro k r s hr hs hw
    have e1 : 4 * nI r = nI (4 * r) := pk_mul 4 r
    have e2 : nI m - nI m / 9 * 9 = nI m := (pk_rem (a := m) (d := 9) (by omega) (by omega) (by omega)).trans (congrArg nI (by omega))
    have e3 : nI m / 9 = 0 := (pk_div (a := m) (d := 9) (by omega) (by omega) (by omega)).trans (congrArg nI (show m / 9 = 0 by omega))
    have e4 : a1 r = 0 := by
      by_cases q : r = 0
      · rw [q]
        exact hG.2.1
      · rw [show r = 1 by omega]
        exact (hG.2.2.2.2.2.2 (by omega)).1
    have hD : gl_D cn n t w (4 * r) m m := by
      by_cases q : r = 0
      · exact ⟨hm, Or.inl ⟨by omega, rfl⟩⟩
      · exact ⟨hm, Or.inr (Or.inr ⟨by omega, by omega, rfl⟩)⟩
    refine pk_le cn r (fun z => absurd z (by omega)) (fun _ => ⟨pk_in r 12 (by omega), by decide, br_t ?_ ⟨by decide, ?_⟩⟩)
    · rw [nI_clamp (by omega), e4, e3]
    · rw [e1, e2]
      refine gw_add hn hs hD (fun o' b5 b6 hI' _ => nm_r (nI_1 r) (hw (o', b5, b6) (gl_Iex hI' ?_)))
      rintro e ⟨⟨r', y1, y2, y3⟩, y4⟩
      refine ⟨r', ?_, y2, y3⟩
      by_cases q : r' = r
      · rw [q] at y3
        exact absurd y3 y4
      · omega
theorem gw_call {m : Nat} (hn : n ≤ 8) (hm : m ≤ n) (hG : gl_G cn w a1 a2 a3) (hI : gl_I cn n t w i0 h (fun _ => False) hx ox o a5 a6 a7 a8 a9)
    (H : ∀ o' b5 b6 b9, gl_I cn n t w i0 h (fun _ => False) hx (fun x => ox x ∧ x ≠ m) o' b5 b6 a7 a8 b9 → post (nI cn, s0, o', a1, a2, a3, a4, b5, b6, a7, a8, b9)) :
    wpX_call post (nI cn, s0, o, a1, a2, a3, a4, a5, a6, a7, a8, a9) (nI m) := by
  have vi : vp_in (nI m) 45 := vp_in_nI (by omega) (by omega)
  refine ⟨vi, ?_⟩
  rw [nI_clamp (show m < 2 ^ 31 by omega)]
  exact br_c (fun z => ⟨vi, nm_e (gw_call19 hn hm hG (gl_Iopn hI hG.1) (fun o' b5 b6 hI' => H _ _ _ _ hI'))⟩) (fun z => H _ _ _ _ (gl_Iop0 hI z))
theorem gw_fin33 {m p : Nat} (hn : n ≤ 8) (hA : gl_A cn n t w m p) (hI : gl_I cn n t w i0 h (fun e => ∃ k, 0 ≤ k ∧ k < 2160 ∧ gl_b a7 (2176 * m + k) = true ∧ e = gl_e (k / 45) (k % 45) p) hx ox o a5 a6 a7 a8 a9)
    (H : ∀ o' b5 b6, gl_I cn n t w i0 h (fun _ => False) hx ox o' b5 b6 a7 a8 a9 → post (c0, s0, o', a1, a2, a3, a4, b5, b6, a7, a8, a9)) :
    ∃ fu, wX_finish_33 post (nI m) (nI p) fu 0 c0 s0 o a1 a2 a3 a4 a5 a6 a7 a8 a9 := by
  have g1 := hA.2.1
  have g2 := hA.2.2.1
  refine pk_loop (σ := Int32 × (Nat → Int32) × (Nat → Int32)) (fun f k s => wX_finish_33 post (nI m) (nI p) f (nI k) c0 s0 s.1 a1 a2 a3 a4 s.2.1 s.2.2 a7 a8 a9)
    (fun k s => gl_I cn n t w i0 h (fun e => ∃ k', k ≤ k' ∧ k' < 2160 ∧ gl_b a7 (2176 * m + k') = true ∧ e = gl_e (k' / 45) (k' % 45) p) hx ox s.1 s.2.1 s.2.2 a7 a8 a9) 2160 0 (o, a5, a6) (Nat.zero_le _) hI ?_ ?_
  · intro f s hs
    exact pk_le 2160 2160 (fun _ => H _ _ _ (gl_Iex hs (fun e ⟨r, z1, z2, _⟩ => by omega))) (fun z => absurd z (by omega))
  · intro f k s hk hs hw
    have e1 : (68 * nI m) + (nI k >>> ((5 : Int32) &&& 31)) = nI ((2176 * m + k) / 32) := by
      rw [gb_d32 (by omega)]
      show nI 68 * nI m + _ = _
      rw [pk_mul, nI_add]
      exact congrArg nI (by omega)
    have e2 : nI k &&& 31 = nI ((2176 * m + k) % 32) := by
      rw [gb_n31 (by omega)]
      exact congrArg nI (by omega)
    have e3 : nI k / 45 = nI (k / 45) := pk_div (a := k) (d := 45) (by omega) (by omega) (by omega)
    have e4 : nI k - nI (k / 45) * 45 = nI (k % 45) := by
      rw [← e3]
      exact pk_rem (a := k) (d := 45) (by omega) (by omega) (by omega)
    refine pk_le 2160 k (fun z => absurd z (by omega)) (fun _ => ?_)
    rw [e1, e2, nI_clamp (show (2176 * m + k) / 32 < 2 ^ 31 by omega)]
    refine ⟨vp_in_nI (by omega) (by omega), gb_br (gb_ur _ (by omega)) (fun z => ⟨by decide, by decide, ?_⟩) (fun z => ?_)⟩
    · rw [e3, e4]
      refine gw_add hn hs (gl_CD (hs.2.2.2.2.2.1 m k (by omega) hk z) hA) (fun o' b5 b6 hI' _ => nm_r (nI_1 k) (hw (o', b5, b6) (gl_Iex hI' ?_)))
      rintro e ⟨⟨r', y1, y2, y3, y4⟩, y5⟩
      refine ⟨r', ?_, y2, y3, y4⟩
      by_cases q : r' = k
      · rw [q] at y4
        exact absurd y4 y5
      · omega
    · refine nm_r (nI_1 k) (hw s (gl_Iex hs ?_))
      rintro e ⟨r', y1, y2, y3, y4⟩
      refine ⟨r', ?_, y2, y3, y4⟩
      by_cases q : r' = k
      · have z' : gl_b a7 (2176 * m + k) = false := z
        rw [q, z'] at y3
        exact absurd y3 (by decide)
      · omega
theorem gw_finish {m p : Nat} (hn : n ≤ 8) (hA : gl_A cn n t w m p) (hI : gl_I cn n t w i0 h (fun _ => False) hx ox o a5 a6 a7 a8 a9)
    (H : ∀ o' b5 b6 b8, gl_I cn n t w i0 h (fun _ => False) hx ox o' b5 b6 a7 b8 a9 → gl_b b8 (32 * m + p) = true → post (c0, s0, o', a1, a2, a3, a4, b5, b6, a7, b8, a9)) :
    wpX_finish post (c0, s0, o, a1, a2, a3, a4, a5, a6, a7, a8, a9) (nI m) (nI p) := by
  have g1 := hA.2.1
  have g2 := hA.2.2.1
  have vi : vp_in (nI m) 45 := vp_in_nI (by omega) (by omega)
  refine ⟨vi, ?_⟩
  rw [nI_clamp (show m < 2 ^ 31 by omega)]
  refine gb_br (gb_sr _ (by omega)) (fun z => H _ _ _ _ hI ?_) (fun z => ⟨vi, vi, nm_e (gw_fin33 hn hA (gl_Ifin hI hA hn (gl_set8 a8 (by omega))) (fun o' b5 b6 hI' => H _ _ _ _ hI' ?_))⟩)
  · rw [gl_b8 (by omega)]
    exact z
  · rw [gl_set8 a8 (by omega), decide_eq_true (rfl : 32 * m + p = 32 * m + p), Bool.or_true]
theorem gw_att62 {m l cl : Nat} (hn : n ≤ 8) (hG : gl_G cn w a1 a2 a3) (hC : gl_C cn n t w m l cl) (hI : gl_I cn n t w i0 h (fun e => ∃ q, 0 ≤ q ∧ q < 9 ∧ gl_b a8 (32 * m + q) = true ∧ e = gl_e l cl q) hx (fun x => x = m) o a5 a6 a7 a8 a9)
    (H : ∀ o' b5 b6 b9, gl_I cn n t w i0 h (fun _ => False) hx (fun _ => False) o' b5 b6 a7 a8 b9 → post (nI cn, s0, o', a1, a2, a3, a4, b5, b6, a7, a8, b9)) :
    ∃ fu, wX_attend_62 post (nI m) (nI l) (nI cl) fu 0 (nI cn) s0 o a1 a2 a3 a4 a5 a6 a7 a8 a9 := by
  have g1 := hC.1
  refine pk_loop (σ := Int32 × (Nat → Int32) × (Nat → Int32)) (fun f k s => wX_attend_62 post (nI m) (nI l) (nI cl) f (nI k) (nI cn) s0 s.1 a1 a2 a3 a4 s.2.1 s.2.2 a7 a8 a9)
    (fun k s => gl_I cn n t w i0 h (fun e => ∃ q, k ≤ q ∧ q < 9 ∧ gl_b a8 (32 * m + q) = true ∧ e = gl_e l cl q) hx (fun x => x = m) s.1 s.2.1 s.2.2 a7 a8 a9) 9 0 (o, a5, a6) (Nat.zero_le _) hI ?_ ?_
  · intro f s hs
    refine pk_le 9 9 (fun _ => ?_) (fun z => absurd z (by omega))
    exact gw_call hn g1 hG (gl_Iex hs (fun e ⟨r, z1, z2, _⟩ => by omega)) (fun o' b5 b6 b9 hI' => H _ _ _ _ (gl_Iox hI' (fun e z => z.2 z.1)))
  · intro f k s hk hs hw
    refine pk_le 9 k (fun z => absurd z (by omega)) (fun _ => ⟨vp_in_nI (by omega) (by omega), ?_⟩)
    rw [nI_clamp (show m < 2 ^ 31 by omega)]
    refine gb_br (gb_sr _ (by omega)) (fun z => ?_) (fun z => ?_)
    · have z' : gl_b a8 (32 * m + k) = true := by
        rw [gl_b8 (by omega)]
        exact z
      refine gw_add hn hs (gl_CD hC (hs.2.2.2.2.1 m k (by omega) (by omega) z')) (fun o' b5 b6 hI' _ => nm_r (nI_1 k) (hw (o', b5, b6) (gl_Iex hI' ?_)))
      rintro e ⟨⟨r', y1, y2, y3, y4⟩, y5⟩
      refine ⟨r', ?_, y2, y3, y4⟩
      by_cases q : r' = k
      · rw [q] at y4
        exact absurd y4 y5
      · omega
    · have z' : gl_b a8 (32 * m + k) = false := by
        rw [gl_b8 (by omega)]
        exact z
      refine nm_r (nI_1 k) (hw s (gl_Iex hs ?_))
      rintro e ⟨r', y1, y2, y3, y4⟩
      refine ⟨r', ?_, y2, y3, y4⟩
      by_cases q : r' = k
      · rw [q, z'] at y3
        exact absurd y3 (by decide)
      · omega
theorem gw_attend {m l cl : Nat} (hn : n ≤ 8) (hG : gl_G cn w a1 a2 a3) (hC : gl_C cn n t w m l cl) (hI : gl_I cn n t w i0 h (fun _ => False) hx (fun _ => False) o a5 a6 a7 a8 a9)
    (H : ∀ o' b5 b6 b7 b9, gl_I cn n t w i0 h (fun _ => False) hx (fun _ => False) o' b5 b6 b7 a8 b9 → gl_b b7 (2176 * m + (l * 45 + cl)) = true → post (nI cn, s0, o', a1, a2, a3, a4, b5, b6, b7, a8, b9)) :
    wpX_attend post (nI cn, s0, o, a1, a2, a3, a4, a5, a6, a7, a8, a9) (nI m) (nI l) (nI cl) := by
  have g1 := hC.1
  have g2 := hC.2.1
  have g3 : l ≤ 2 := by
    rcases hC.2.2 with z | z <;> omega
  have e1 : (nI l * 45) + nI cl = nI (l * 45 + cl) := by
    show nI l * nI 45 + _ = _
    rw [pk_mul, nI_add]
  have e2 : (68 * nI m) + (nI (l * 45 + cl) >>> ((5 : Int32) &&& 31)) = nI ((2176 * m + (l * 45 + cl)) / 32) := by
    rw [gb_d32 (by omega)]
    show nI 68 * nI m + _ = _
    rw [pk_mul, nI_add]
    exact congrArg nI (by omega)
  have e3 : (1 : Int32) <<< ((nI (l * 45 + cl) &&& 31) &&& 31) = (1 : Int32) <<< (nI ((2176 * m + (l * 45 + cl)) % 32) &&& 31) := by
    rw [gb_n31 (by omega)]
    exact congrArg (fun x => (1 : Int32) <<< (nI x &&& 31)) (by omega)
  refine nm_r e1 (nm_r e2 (nm_r e3 ?_))
  have vi : vp_in (nI ((2176 * m + (l * 45 + cl)) / 32)) 3060 := vp_in_nI (by omega) (by omega)
  rw [nI_clamp (show (2176 * m + (l * 45 + cl)) / 32 < 2 ^ 31 by omega)]
  refine ⟨vi, br_c (fun z => ⟨vi, vi, nm_e (gw_att62 hn hG hC (gl_Iatt hI hC hn (gl_set a7 _)) (fun o' b5 b6 b9 hI' => H _ _ _ _ _ hI' ?_))⟩) (fun z => H _ _ _ _ _ hI ?_)⟩
  · rw [gl_set, decide_eq_true (rfl : 2176 * m + (l * 45 + cl) = 2176 * m + (l * 45 + cl)), Bool.or_true]
  · cases q : gl_b a7 (2176 * m + (l * 45 + cl))
    · exact absurd ((gb_tst (a7 ((2176 * m + (l * 45 + cl)) / 32)) (by omega)).mpr q) z
    · rfl
theorem gw_handle {l nd p d : Nat} (hn : n ≤ 8) (hG : gl_G cn w a1 a2 a3) (hD : gl_D cn n t w l nd p) (hd : gl_e l nd p = d) (hI : gl_I cn n t w i0 h (fun _ => False) (fun e => e = d) (fun _ => False) o a5 a6 a7 a8 a9)
    (H : ∀ o' b5 b6 b7 b8 b9, gl_I cn n t w i0 h (fun _ => False) (fun _ => False) (fun _ => False) o' b5 b6 b7 b8 b9 → post (nI cn, nI n, o', a1, a2, a3, t, b5, b6, b7, b8, b9)) :
    wpX_handle post (nI cn, nI n, o, a1, a2, a3, t, a5, a6, a7, a8, a9) (nI l) (nI nd) (nI p) := by
  obtain ⟨q1, q2, q3⟩ := gl_Db hn hD
  obtain ⟨j1, j2, j3, j4, j5, j6, j7⟩ := hG
  have hG : gl_G cn w a1 a2 a3 := ⟨j1, j2, j3, j4, j5, j6, j7⟩
  have hmk : ∀ b5 b7 b8 : Nat → Int32, ((l = 0 → gl_b b7 (2176 * p + (45 + nd)) = true) ∧ (l = 1 → gl_b b7 (2176 * p + (90 + nd)) = true) ∧ ((l = 2 ∨ l = 5) → gl_b b8 (32 * nd + p) = true) ∧ (l = 4 → p < n → t p = w → gl_b b5 (gl_e 5 nd (p + 1)) = true)) → ∀ e, e = d → gl_H n t w b5 b7 b8 e := by
    intro b5 b7 b8 g e he
    rw [he, ← hd]
    exact gl_Hmk (by omega) (by omega) g
  have e9 : (9 * (0 : Int32)) + nI p = nI p := by
    show nI 9 * nI 0 + nI p = nI p
    rw [pk_mul, nI_add]
    exact congrArg nI (by omega)
  have hcl : ∀ k, k < 100 → (nI k).toNatClampNeg = k := fun k hk => nI_clamp (by omega)
  have hp : p ≤ n := by
    rcases hD with ⟨d1, d2 | d2 | d2⟩
    · omega
    · exact d2.2.2.2.1
    · omega
  by_cases l0 : l = 0
  · subst l0
    have hp0 : p = nd := by
      rcases hD.2 with z | z | z <;> omega
    refine nm_r (show nI 0 >>> ((2 : Int32) &&& 31) = nI 0 by decide) (nm_r (show nI 0 &&& 3 = nI 0 by decide) ⟨pk_in 0 12 (by omega), br_f ?_ ⟨pk_in 0 36 (by omega), nm_r (e' := 0) ?_ (br_t (by decide) ?_)⟩⟩)
    · rw [hcl 0 (by omega), j3]
      decide
    · rw [show (3 * nI 0 + nI 0).toNatClampNeg = 0 by decide]
      exact j4
    · rw [e9, nI_1]
      refine gw_attend hn hG (m := p) (l := 1) (cl := nd) ⟨hp, hD.1, Or.inl ⟨rfl, hp0.symm⟩⟩ hI (fun o' b5 b6 b7 b9 hI' hb => H _ _ _ _ _ _ (gl_Ihx hI' (hmk _ _ _ ⟨fun _ => hb, ?_, ?_, ?_⟩))) <;> intro z <;> omega
  by_cases l1 : l = 1
  · subst l1
    have hA : gl_A cn n t w nd p := by
      rcases hD.2 with z | z | z
      · omega
      · exact z.2
      · omega
    refine nm_r (show nI 1 >>> ((2 : Int32) &&& 31) = nI 0 by decide) (nm_r (show nI 1 &&& 3 = nI 1 by decide) ⟨pk_in 0 12 (by omega), br_f ?_ ⟨pk_in 1 36 (by omega), nm_r (e' := 0) ?_ (br_t (by decide) ?_)⟩⟩)
    · rw [hcl 0 (by omega), j3]
      decide
    · rw [show (3 * nI 0 + nI 1).toNatClampNeg = 1 by decide]
      exact j5
    · rw [e9, nI_1]
      refine gw_attend hn hG (m := p) (l := 2) (cl := nd) ⟨hp, hD.1, Or.inr ⟨rfl, hA⟩⟩ hI (fun o' b5 b6 b7 b9 hI' hb => H _ _ _ _ _ _ (gl_Ihx hI' (hmk _ _ _ ⟨?_, fun _ => hb, ?_, ?_⟩))) <;> intro z <;> omega
  by_cases l2 : l = 2
  · subst l2
    have hA : gl_A cn n t w nd p := by
      rcases hD.2 with z | z | z
      · omega
      · exact z.2
      · omega
    refine nm_r (show nI 2 >>> ((2 : Int32) &&& 31) = nI 0 by decide) (nm_r (show nI 2 &&& 3 = nI 2 by decide) ⟨pk_in 0 12 (by omega), br_t ?_ ?_⟩)
    · rw [hcl 0 (by omega), j3]
      decide
    · refine gw_finish hn hA hI (fun o' b5 b6 b8 hI' hb => H _ _ _ _ _ _ (gl_Ihx hI' (hmk _ _ _ ⟨?_, ?_, fun _ => hb, ?_⟩))) <;> intro z <;> omega
  have hc2 : cn = 2 := by
    rcases hD.2 with z | z | z
    · omega
    · exact z.2.1
    · exact z.1
  obtain ⟨j8, j9, j10⟩ := j7 hc2
  by_cases l4 : l = 4
  · subst l4
    have hp0 : p = nd := by
      rcases hD.2 with z | z | z <;> omega
    refine nm_r (show nI 4 >>> ((2 : Int32) &&& 31) = nI 1 by decide) (nm_r (show nI 4 &&& 3 = nI 0 by decide) ⟨pk_in 1 12 (by omega), br_f ?_ ⟨pk_in 3 36 (by omega), nm_r (e' := w) ?_ (br_f j6 ?_)⟩⟩)
    · rw [hcl 1 (by omega), j9]
      decide
    · rw [show (3 * nI 1 + nI 0).toNatClampNeg = 3 by decide]
      exact j10
    · have nop : (p < n → t p = w → False) → gl_I cn n t w i0 h (fun _ => False) (fun _ => False) (fun _ => False) o a5 a6 a7 a8 a9 := by
        intro g
        refine gl_Ihx hI (hmk _ _ _ ⟨?_, ?_, ?_, fun _ y1 y2 => absurd (g y1 y2) id⟩) <;> intro z <;> omega
      refine pk_le n p (fun z => H _ _ _ _ _ _ (nop (fun y _ => by omega))) (fun z => ⟨pk_in p 9 (by omega), ?_⟩)
      rw [nI_clamp (show p < 2 ^ 31 by omega)]
      refine br_c (fun y => ?_) (fun y => H _ _ _ _ _ _ (nop (fun _ y2 => y y2)))
      rw [nI_1, nI_1]
      refine gw_add hn hI (l := 5) (nd := nd) (p := p + 1) ⟨hD.1, Or.inr (Or.inl ⟨Or.inr (Or.inr rfl), hc2, by omega, by omega, fun k k1 k2 => ?_⟩)⟩ (fun o' b5 b6 hI' hb => H _ _ _ _ _ _ (gl_Ihx (gl_Iex hI' (fun e z => z.1)) (hmk _ _ _ ⟨?_, ?_, ?_, fun _ _ _ => hb⟩)))
      · rw [show k = p by omega]
        exact y
      all_goals (intro z; omega)
  by_cases l5 : l = 5
  · subst l5
    have hA : gl_A cn n t w nd p := by
      rcases hD.2 with z | z | z
      · omega
      · exact z.2
      · omega
    refine nm_r (show nI 5 >>> ((2 : Int32) &&& 31) = nI 1 by decide) (nm_r (show nI 5 &&& 3 = nI 1 by decide) ⟨pk_in 1 12 (by omega), br_t ?_ ?_⟩)
    · rw [hcl 1 (by omega), j9]
      decide
    · refine gw_finish hn hA hI (fun o' b5 b6 b8 hI' hb => H _ _ _ _ _ _ (gl_Ihx hI' (hmk _ _ _ ⟨?_, ?_, fun _ => hb, ?_⟩))) <;> intro z <;> omega
  · exfalso
    rcases hD.2 with z | z | z <;> omega
end
end
section
/-! handleWord, run, start, endsOf -/
/-- the invariant with no excuse -/
abbrev gl_J (cn n : Nat) (t : Nat → Int32) (w : Int32) (i0 h : Nat) (o : Int32) (a5 a6 a7 a8 a9 : Nat → Int32) : Prop := gl_I cn n t w i0 h (fun _ => False) (fun _ => False) (fun _ => False) o a5 a6 a7 a8 a9
theorem gl_n_ex {f : Nat → Bool} : ∀ k, 0 < gl_n f k → ∃ d, d < k ∧ f d = true
  | 0, h => absurd h (Nat.lt_irrefl 0)
  | k + 1, h => by
    have h' : 0 < gl_n f k + (if f k = true then 1 else 0) := h
    cases hf : f k
    · rw [hf, if_neg (by decide)] at h'
      obtain ⟨d, h1, h2⟩ := gl_n_ex k h'
      exact ⟨d, by omega, h2⟩
    · exact ⟨k, by omega, hf⟩
theorem gs_fill {s : Nat → Int32} {k : Nat} (h : ∀ j, j < k → s j = 0) : ∀ j, j < k + 1 → upd s k 0 j = 0 := by
  intro j hj
  by_cases e : j = k
  · rw [e, pk_us]
  · rw [pk_un e]
    exact h j (by omega)
section
variable {cn n : Nat} {t : Nat → Int32} {w : Int32} {i0 h : Nat} {o c0 s0 : Int32} {a1 a2 a3 a4 a5 a6 a7 a8 a9 : Nat → Int32} {post : St2 → Prop}
theorem gw_hw {wd : Nat} (hn : n ≤ 8) (hG : gl_G cn w a1 a2 a3) (hwd : wd < 608) (hI : gl_J cn n t w i0 h o a5 a6 a7 a8 a9)
    (H : ∀ h' o' b5 b6 b7 b8 b9, gl_J cn n t w i0 h' o' b5 b6 b7 b8 b9 → h ≤ h' → (h < h' ∨ (b6 = a6 ∧ ∀ j, j < 32 → gl_b a6 (32 * wd + j) = false)) → post (nI cn, nI n, o', a1, a2, a3, t, b5, b6, b7, b8, b9)) :
    wpX_handleWord post (nI cn, nI n, o, a1, a2, a3, t, a5, a6, a7, a8, a9) (nI wd) := by
  refine pk_loop (σ := Int32 × (Nat → Int32) × (Nat → Int32) × (Nat → Int32) × (Nat → Int32) × (Nat → Int32))
    (fun f k s => wX_handleWord_2 post (nI wd) f (nI k) (nI cn) (nI n) s.1 a1 a2 a3 t s.2.1 s.2.2.1 s.2.2.2.1 s.2.2.2.2.1 s.2.2.2.2.2)
    (fun k s => ∃ h', gl_J cn n t w i0 h' s.1 s.2.1 s.2.2.1 s.2.2.2.1 s.2.2.2.2.1 s.2.2.2.2.2 ∧ h ≤ h' ∧ (h < h' ∨ (s.2.2.1 = a6 ∧ ∀ j, j < k → gl_b a6 (32 * wd + j) = false)))
    32 0 (o, a5, a6, a7, a8, a9) (Nat.zero_le _) ⟨h, hI, Nat.le_refl h, Or.inr ⟨rfl, fun j hj => absurd hj (by omega)⟩⟩ ?_ ?_
  · rintro f s ⟨h', g1, g2, g3⟩
    exact pk_le 32 32 (fun _ => H _ _ _ _ _ _ _ g1 g2 g3) (fun z => absurd z (by omega))
  · rintro f k s hk ⟨h', g1, g2, g3⟩ hw'
    have vi : vp_in (nI wd) 608 := vp_in_nI hwd (by omega)
    refine pk_le 32 k (fun z => absurd z (by omega)) (fun _ => ⟨vi, ?_⟩)
    rw [nI_clamp (show wd < 2 ^ 31 by omega)]
    refine gb_br (gb_ur _ hk) (fun z => ?_) (fun z => ?_)
    · have z' : gl_b s.2.2.1 (32 * wd + k) = true := by
        rw [gl_b8 hk]
        exact z
      have k6 := gl_clr8 s.2.2.1 (m := wd) hk
      obtain ⟨d, hd⟩ : ∃ d, d = 32 * wd + k := ⟨_, rfl⟩
      rw [← hd] at z' k6
      have e3 : (32 * nI wd) + nI k = nI d := by
        rw [hd]
        show nI 32 * nI wd + _ = _
        rw [pk_mul, nI_add]
      have e4 : nI d / 9 = nI (d / 9) := pk_div (a := d) (d := 9) (by omega) (by omega) (by omega)
      have e5 : nI (d / 9) / 45 = nI (d / 405) := (pk_div (a := d / 9) (d := 45) (by omega) (by omega) (by omega)).trans (congrArg nI (by omega))
      have e6 : nI (d / 9) - nI (d / 9) / 45 * 45 = nI (d / 9 % 45) := pk_rem (a := d / 9) (d := 45) (by omega) (by omega) (by omega)
      have e7 : nI d - nI d / 9 * 9 = nI (d % 9) := pk_rem (a := d) (d := 9) (by omega) (by omega) (by omega)
      refine ⟨vi, vi, nm_e (nm_e (nm_r e3 ⟨by decide, nm_r e4 ⟨by decide, by decide, by decide, ?_⟩⟩))⟩
      rw [e6, e5, e7]
      refine gw_handle hn hG (g1.1 d (by omega) (g1.2.1 d (by omega) z')) (gl_e4 d) (gl_Iclr hn g1 (by omega) z' k6) (fun o' b5 b6 b7 b8 b9 hI' => nm_r (nI_1 k) (hw' (o', b5, b6, b7, b8, b9) ⟨h' + 1, hI', by omega, Or.inl (by omega)⟩))
    · have z' : gl_b s.2.2.1 (32 * wd + k) = false := by
        rw [gl_b8 hk]
        exact z
      refine nm_r (nI_1 k) (hw' s ⟨h', g1, g2, g3.imp_right (fun ⟨y1, y2⟩ => ⟨y1, fun j hj => ?_⟩)⟩)
      by_cases q : j = k
      · rw [q, ← y1]
        exact z'
      · exact y2 j (by omega)
theorem gw_run18 {J : Int32 → Int32 → Int32 → Int32 → (Nat → Int32) → (Nat → Int32) → (Nat → Int32) → (Nat → Int32) → (Nat → Int32) → (Nat → Int32) → (Nat → Int32) → (Nat → Int32) → (Nat → Int32) → Prop} {x1 : Int32} (hn : n ≤ 8) (hG : gl_G cn w a1 a2 a3) (hI : gl_J cn n t w i0 h o a5 a6 a7 a8 a9)
    (hp : ∃ d, d < 19456 ∧ gl_b a6 d = true)
    (H : ∀ h' o' b5 b6 b7 b8 b9, gl_J cn n t w i0 h' o' b5 b6 b7 b8 b9 → h < h' → J (x1 + 1) (nI cn) (nI n) o' a1 a2 a3 t b5 b6 b7 b8 b9) :
    ∃ fu, wX_run_18 post J x1 fu 0 (nI cn) (nI n) o a1 a2 a3 t a5 a6 a7 a8 a9 := by
  refine pk_loop (σ := Int32 × (Nat → Int32) × (Nat → Int32) × (Nat → Int32) × (Nat → Int32) × (Nat → Int32))
    (fun f k s => wX_run_18 post J x1 f (nI k) (nI cn) (nI n) s.1 a1 a2 a3 t s.2.1 s.2.2.1 s.2.2.2.1 s.2.2.2.2.1 s.2.2.2.2.2)
    (fun k s => ∃ h', gl_J cn n t w i0 h' s.1 s.2.1 s.2.2.1 s.2.2.2.1 s.2.2.2.2.1 s.2.2.2.2.2 ∧ h ≤ h' ∧ (h < h' ∨ (s.2.2.1 = a6 ∧ ∀ d, d < 32 * k → gl_b a6 d = false)))
    608 0 (o, a5, a6, a7, a8, a9) (Nat.zero_le _) ⟨h, hI, Nat.le_refl h, Or.inr ⟨rfl, fun j hj => absurd hj (by omega)⟩⟩ ?_ ?_
  · rintro f s ⟨h', g1, g2, g3⟩
    refine pk_le 608 608 (fun _ => nm_e (H _ _ _ _ _ _ _ g1 ?_)) (fun z => absurd z (by omega))
    rcases g3 with g3 | ⟨_, g3⟩
    · exact g3
    · obtain ⟨d, d1, d2⟩ := hp
      rw [g3 d (by omega)] at d2
      exact absurd d2 (by decide)
  · rintro f k s hk ⟨h', g1, g2, g3⟩ hw'
    refine pk_le 608 k (fun z => absurd z (by omega)) (fun _ => ⟨vp_in_nI hk (by omega), ?_⟩)
    rw [nI_clamp (show k < 2 ^ 31 by omega)]
    refine br_c (fun z => ?_) (fun z => ?_)
    · refine nm_r (nI_1 k) (hw' s ⟨h', g1, g2, g3.imp_right (fun ⟨y1, y2⟩ => ⟨y1, fun d hd => ?_⟩)⟩)
      by_cases q : d < 32 * k
      · exact y2 d q
      · unfold gl_b
        rw [← y1, show d / 32 = k by omega, z, gb_0]
    · refine gw_hw hn hG hk g1 (fun h'' o' b5 b6 b7 b8 b9 k1 k2 k3 => nm_r (nI_1 k) (hw' (o', b5, b6, b7, b8, b9) ⟨h'', k1, by omega, ?_⟩))
      rcases k3 with k3 | ⟨k3, k4⟩
      · exact Or.inl (by omega)
      · rcases g3 with g3 | ⟨y1, y2⟩
        · exact Or.inl (by omega)
        · refine Or.inr ⟨k3.trans y1, fun d hd => ?_⟩
          by_cases q : d < 32 * k
          · exact y2 d q
          · have := k4 (d - 32 * k) (by omega)
            rw [show 32 * k + (d - 32 * k) = d by omega, y1] at this
            exact this
theorem gw_run2 (hn : n ≤ 8) (hG : gl_G cn w a1 a2 a3)
    (H : ∀ h' o' b5 b6 b7 b8 b9, gl_J cn n t w i0 h' o' b5 b6 b7 b8 b9 → gl_n (gl_b b6) 2112 = 0 → post (nI cn, nI n, o', a1, a2, a3, t, b5, b6, b7, b8, b9)) :
    ∀ (f s h : Nat) (o : Int32) (a5 a6 a7 a8 a9 : Nat → Int32), gl_J cn n t w i0 h o a5 a6 a7 a8 a9 → s ≤ h → 2112 < f + h → wX_run_2 post f (nI s) (nI cn) (nI n) o a1 a2 a3 t a5 a6 a7 a8 a9 := by
  intro f
  induction f with
  | zero =>
    intro s h o a5 a6 a7 a8 a9 hI hs hf
    have := gl_Ih hI
    omega
  | succ f ih =>
    intro s h o a5 a6 a7 a8 a9 hI hs hf
    have hh := gl_Ih hI
    have ho := hI.2.2.1
    have hle := gl_n_le (gl_b a6) 2112
    refine pk_le 19441 s (fun z => absurd z (by omega)) (fun _ => ?_)
    refine pk_le (gl_n (gl_b a6) 2112) 0 (fun z => H _ _ _ _ _ _ _ hI (by omega)) (fun z => ?_) ho
    obtain ⟨d, d1, d2⟩ := gl_n_ex 2112 z
    refine gw_run18 hn hG hI ⟨d, by omega, d2⟩ (fun h' o' b5 b6 b7 b8 b9 k1 k2 => ?_)
    rw [nI_1]
    exact ih (s + 1) h' o' b5 b6 b7 b8 b9 k1 (by omega) (by omega)
theorem gw_run (hn : n ≤ 8) (hG : gl_G cn w a1 a2 a3) (hI : gl_J cn n t w i0 h o a5 a6 a7 a8 a9)
    (H : ∀ h' o' b5 b6 b7 b8 b9, gl_J cn n t w i0 h' o' b5 b6 b7 b8 b9 → gl_n (gl_b b6) 2112 = 0 → post (nI cn, nI n, o', a1, a2, a3, t, b5, b6, b7, b8, b9)) :
    wpX_run post (nI cn, nI n, o, a1, a2, a3, t, a5, a6, a7, a8, a9) :=
  ⟨2113, gw_run2 hn hG H 2113 0 h o a5 a6 a7 a8 a9 hI (Nat.zero_le _) (by omega)⟩
theorem gw_st58 (H : ∀ b8 b9 : Nat → Int32, (∀ k, k < 45 → b8 k = 0) → (∀ k, k < 45 → b9 k = 0) → post (c0, s0, o, a1, a2, a3, a4, a5, a6, a7, b8, b9)) :
    ∃ fu, wX_start_58 post c0 s0 o fu 0 a1 a2 a3 a4 a5 a6 a7 a8 a9 := by
  refine pk_loop (σ := (Nat → Int32) × (Nat → Int32)) (fun f k s => wX_start_58 post c0 s0 o f (nI k) a1 a2 a3 a4 a5 a6 a7 s.1 s.2) (fun k s => (∀ j, j < k → s.1 j = 0) ∧ (∀ j, j < k → s.2 j = 0)) 45 0 (a8, a9) (Nat.zero_le _) ⟨fun j hj => absurd hj (by omega), fun j hj => absurd hj (by omega)⟩ ?_ ?_
  · exact fun f s hs => pk_le 45 45 (fun _ => H _ _ hs.1 hs.2) (fun z => absurd z (by omega))
  · intro f k s hk hs hw
    refine pk_le 45 k (fun z => absurd z (by omega)) (fun _ => ?_)
    rw [nI_clamp (show k < 2 ^ 31 by omega)]
    exact ⟨vp_in_nI hk (by omega), nm_e ⟨vp_in_nI hk (by omega), nm_e (nm_r (nI_1 k) (hw (_, _) ⟨gs_fill hs.1, gs_fill hs.2⟩))⟩⟩
theorem gw_st36 (H : ∀ b7 b8 b9 : Nat → Int32, (∀ k, k < 3060 → b7 k = 0) → (∀ k, k < 45 → b8 k = 0) → (∀ k, k < 45 → b9 k = 0) → post (c0, s0, o, a1, a2, a3, a4, a5, a6, b7, b8, b9)) :
    ∃ fu, wX_start_36 post c0 s0 o fu 0 a1 a2 a3 a4 a5 a6 a7 a8 a9 := by
  refine pk_loop (σ := Nat → Int32) (fun f k s => wX_start_36 post c0 s0 o f (nI k) a1 a2 a3 a4 a5 a6 s a8 a9) (fun k s => ∀ j, j < k → s j = 0) 3060 0 a7 (Nat.zero_le _) (fun j hj => absurd hj (by omega)) ?_ ?_
  · exact fun f s hs => pk_le 3060 3060 (fun _ => gw_st58 (fun b8 b9 k8 k9 => H _ _ _ hs k8 k9)) (fun z => absurd z (by omega))
  · intro f k s hk hs hw
    refine pk_le 3060 k (fun z => absurd z (by omega)) (fun _ => ?_)
    rw [nI_clamp (show k < 2 ^ 31 by omega)]
    exact ⟨vp_in_nI hk (by omega), nm_e (nm_r (nI_1 k) (hw _ (gs_fill hs)))⟩
theorem gw_start (H : ∀ b5 b6 b7 b8 b9 : Nat → Int32, (∀ k, k < 608 → b5 k = 0) → (∀ k, k < 608 → b6 k = 0) → (∀ k, k < 3060 → b7 k = 0) → (∀ k, k < 45 → b8 k = 0) → (∀ k, k < 45 → b9 k = 0) → post (c0, s0, 0, a1, a2, a3, a4, b5, b6, b7, b8, b9)) :
    wpX_start post (c0, s0, o, a1, a2, a3, a4, a5, a6, a7, a8, a9) := by
  refine pk_loop (σ := (Nat → Int32) × (Nat → Int32)) (fun f k s => wX_start_7 post c0 s0 0 f (nI k) a1 a2 a3 a4 s.1 s.2 a7 a8 a9) (fun k s => (∀ j, j < k → s.1 j = 0) ∧ (∀ j, j < k → s.2 j = 0)) 608 0 (a5, a6) (Nat.zero_le _) ⟨fun j hj => absurd hj (by omega), fun j hj => absurd hj (by omega)⟩ ?_ ?_
  · exact fun f s hs => pk_le 608 608 (fun _ => gw_st36 (fun b7 b8 b9 k7 k8 k9 => H _ _ _ _ _ hs.1 hs.2 k7 k8 k9)) (fun z => absurd z (by omega))
  · intro f k s hk hs hw
    refine pk_le 608 k (fun z => absurd z (by omega)) (fun _ => ?_)
    rw [nI_clamp (show k < 2 ^ 31 by omega)]
    exact ⟨vp_in_nI hk (by omega), nm_e ⟨vp_in_nI hk (by omega), nm_e (nm_r (nI_1 k) (hw (_, _) ⟨gs_fill hs.1, gs_fill hs.2⟩))⟩⟩
/-- endsOf(0, i): bit p of the answer says that i to p fits -/
theorem gw_ends {post : Int32 → St2 → Prop} {i : Nat} (hn : n ≤ 8) (hG : gl_G cn w a1 a2 a3) (hi : i ≤ n)
    (H : ∀ r o' b5 b6 b7 b8 b9, (∀ p, p < 32 → (gb_t r p = true ↔ gl_A cn n t w i p)) → post r (nI cn, nI n, o', a1, a2, a3, t, b5, b6, b7, b8, b9)) :
    wpX_endsOf post (nI cn, nI n, o, a1, a2, a3, t, a5, a6, a7, a8, a9) 0 (nI i) := by
  have e9 : (9 * (0 : Int32)) + nI i = nI i := by
    show nI 9 * nI 0 + nI i = nI i
    rw [pk_mul, nI_add]
    exact congrArg nI (by omega)
  refine br_t (by decide) ?_
  rw [e9]
  refine gw_start (fun b5 b6 b7 b8 b9 k5 k6 k7 k8 k9 => ?_)
  refine gw_call (i0 := i) (h := 0) (hx := fun _ => False) (ox := fun x => x = i) (t := t) hn hi hG (gl_I0 k5 k6 k7 k8 k9) (fun o' c5 c6 c9 hI => ?_)
  refine gw_run hn hG (gl_Iox hI (fun e z => z.2 z.1)) (fun h' o2 d5 d6 d7 d8 d9 hJ hz => ⟨vp_in_nI (by omega) (by omega), ?_⟩)
  rw [nI_clamp (show i < 2 ^ 31 by omega)]
  exact H _ _ _ _ _ _ _ (fun p hp => by rw [← gl_Idone hn hi hJ hz hp, gl_b8 hp])
/-- endsOf(w, i) -/
theorem gw_endl {post : Int32 → St2 → Prop} {i : Nat} (hn : n ≤ 8) (hw5 : ¬ w < 5) (hi : i ≤ n)
    (H : ∀ r, (∀ p, p < 32 → (gb_t r p = true ↔ (i < n ∧ t i = w ∧ p = i + 1))) → post r (c0, nI n, o, a1, a2, a3, t, a5, a6, a7, a8, a9)) :
    wpX_endsOf post (c0, nI n, o, a1, a2, a3, t, a5, a6, a7, a8, a9) w (nI i) := by
  refine br_f hw5 (pk_le n i (fun z => H 0 (fun p hp => ?_)) (fun z => ⟨vp_in_nI (by omega) (by omega), ?_⟩))
  · rw [gb_0]
    exact ⟨fun q => absurd q (by decide), fun q => by omega⟩
  · rw [nI_clamp (show i < 2 ^ 31 by omega), nI_1]
    refine br_c (fun y => H _ (fun p hp => ?_)) (fun y => H 0 (fun p hp => ?_))
    · rw [gb_one (i + 1) (by omega) p hp, decide_eq_true_iff]
      exact ⟨fun q => ⟨z, y, q⟩, fun q => q.2.2⟩
    · rw [gb_0]
      exact ⟨fun q => absurd q (by decide), fun q => absurd q.2.1 y⟩
end
end
section
/-! the methods that ask endsOf -/
theorem gx_bit {r : Int32} {n : Nat} {P : Prop} (hn : n < 32) (h : gb_t r n = true ↔ P) : (P → (r >>> (nI n &&& 31)) &&& 1 = 1) ∧ (¬ P → (r >>> (nI n &&& 31)) &&& 1 = 0) := by
  rw [gb_sr r hn]
  exact ⟨fun p => if_pos (h.mpr p), fun p => if_neg (fun z => p (h.mp z))⟩
/-- a branch on one bit whose meaning is known -/
theorem gx_br {r : Int32} {n : Nat} {P A B : Prop} (hn : n < 32) (h : gb_t r n = true ↔ P) (f : P → A) (g : ¬ P → B) : (((r >>> (nI n &&& 31)) &&& 1) = 1 → A) ∧ (¬ ((r >>> (nI n &&& 31)) &&& 1) = 1 → B) :=
  gb_br (gb_sr r hn) (fun z => f (h.mp z)) (fun z => g (fun p => by rw [h.mpr p] at z; exact absurd z (by decide)))
section
variable {cn n : Nat} {t : Nat → Int32} {w : Int32} {o c0 s0 : Int32} {a1 a2 a3 a4 a5 a6 a7 a8 a9 : Nat → Int32} {post : Int32 → St2 → Prop}
theorem gw_accepts (hn : n ≤ 8) (hG : gl_G cn w a1 a2 a3)
    (H : ∀ r o' b5 b6 b7 b8 b9, (gl_A cn n t w 0 n → r = 1) → (¬ gl_A cn n t w 0 n → r = 0) → post r (nI cn, nI n, o', a1, a2, a3, t, b5, b6, b7, b8, b9)) :
    wpX_accepts post (nI cn, nI n, o, a1, a2, a3, t, a5, a6, a7, a8, a9) := by
  unfold wpX_accepts
  refine gw_ends (i := 0) hn hG (Nat.zero_le _) (fun r o' b5 b6 b7 b8 b9 hb => ?_)
  exact H _ _ _ _ _ _ _ (gx_bit (by omega) (hb n (by omega))).1 (gx_bit (by omega) (hb n (by omega))).2
/-- doesFit's inner loop, for any sign whose ends are known -/
theorem gw_df25 {J : Int32 → Int32 → Int32 → Int32 → Int32 → (Nat → Int32) → (Nat → Int32) → (Nat → Int32) → (Nat → Int32) → (Nat → Int32) → (Nat → Int32) → (Nat → Int32) → (Nat → Int32) → (Nat → Int32) → Prop} {ru k : Nat} {x2 x4 : Int32} {R : Nat → Nat → Prop} (hn : n ≤ 8) (hk : 3 * ru + k < 36)
    (hE : ∀ (q : Nat) (ps : Int32 → St2 → Prop) (o : Int32) (a5 a6 a7 a8 a9 : Nat → Int32), q ≤ n → (∀ r o' b5 b6 b7 b8 b9, (∀ p, p < 32 → (gb_t r p = true ↔ R q p)) → ps r (nI cn, nI n, o', a1, a2, a3, t, b5, b6, b7, b8, b9)) → wpX_endsOf ps (nI cn, nI n, o, a1, a2, a3, t, a5, a6, a7, a8, a9) (a2 (3 * ru + k)) (nI q))
    (H : ∀ x6 o' b5 b6 b7 b8 b9, (∀ p, p < 32 → (gb_t x6 p = true ↔ ∃ q, q < n + 1 ∧ gb_t x4 q = true ∧ R q p)) → J x6 (nI (k + 1)) (nI cn) (nI n) o' a1 a2 a3 t b5 b6 b7 b8 b9) :
    ∃ fu, wX_doesFit_25 post J (nI ru) x2 (nI n) x4 (nI k) fu 0 0 (nI cn) (nI n) o a1 a2 a3 t a5 a6 a7 a8 a9 := by
  refine pk_loop (σ := Int32 × Int32 × (Nat → Int32) × (Nat → Int32) × (Nat → Int32) × (Nat → Int32) × (Nat → Int32))
    (fun f q s => wX_doesFit_25 post J (nI ru) x2 (nI n) x4 (nI k) f s.1 (nI q) (nI cn) (nI n) s.2.1 a1 a2 a3 t s.2.2.1 s.2.2.2.1 s.2.2.2.2.1 s.2.2.2.2.2.1 s.2.2.2.2.2.2)
    (fun q s => ∀ p, p < 32 → (gb_t s.1 p = true ↔ ∃ q', q' < q ∧ gb_t x4 q' = true ∧ R q' p))
    (n + 1) 0 (0, o, a5, a6, a7, a8, a9) (Nat.zero_le _) ?_ ?_ ?_
  · intro p hp
    show gb_t 0 p = true ↔ _
    rw [gb_0]
    exact ⟨fun z => absurd z (by decide), fun ⟨q, z, _⟩ => absurd z (by omega)⟩
  · intro f s hs
    exact pk_lt n (n + 1) (fun _ => nm_r (nI_1 k) (H _ _ _ _ _ _ _ hs)) (fun z => absurd z (by omega))
  · intro f q s hq hs hw
    have e1 : (3 * nI ru) + nI k = nI (3 * ru + k) := by
      show nI 3 * nI ru + _ = _
      rw [pk_mul, nI_add]
    refine pk_lt n q (fun z => absurd z (by omega)) (fun _ => ?_)
    rw [e1, nI_clamp (show 3 * ru + k < 2 ^ 31 by omega)]
    refine gb_br (gb_sr x4 (by omega)) (fun z => ⟨vp_in_nI hk (by omega), ?_⟩) (fun z => ?_)
    · refine hE q _ _ _ _ _ _ _ (by omega) (fun r o' b5 b6 b7 b8 b9 hb => nm_e (nm_r (nI_1 q) (hw (s.1 ||| r, o', b5, b6, b7, b8, b9) ?_)))
      intro p hp
      show gb_t (s.1 ||| r) p = true ↔ _
      rw [gb_or, Bool.or_eq_true, hs p hp, hb p hp]
      constructor
      · rintro (⟨q', y1, y2, y3⟩ | y)
        · exact ⟨q', by omega, y2, y3⟩
        · exact ⟨q, by omega, z, y⟩
      · rintro ⟨q', y1, y2, y3⟩
        by_cases g : q' = q
        · rw [g] at y3
          exact Or.inr y3
        · exact Or.inl ⟨q', by omega, y2, y3⟩
    · refine nm_r (nI_1 q) (hw s ?_)
      intro p hp
      rw [hs p hp]
      constructor
      · rintro ⟨q', y1, y2, y3⟩
        exact ⟨q', by omega, y2, y3⟩
      · rintro ⟨q', y1, y2, y3⟩
        by_cases g : q' = q
        · rw [g, z] at y2
          exact absurd y2 (by decide)
        · exact ⟨q', by omega, y2, y3⟩
/-- doesFit of rule 0 from place 0 to the text's end -/
theorem gw_df0 (hn : n ≤ 8) (hG : gl_G cn w a1 a2 a3)
    (H : ∀ r o' b5 b6 b7 b8 b9, ((∃ q, gl_A cn n t w 0 q ∧ gl_A cn n t w q n) → r = 1) → (¬ (∃ q, gl_A cn n t w 0 q ∧ gl_A cn n t w q n) → r = 0) → post r (nI cn, nI n, o', a1, a2, a3, t, b5, b6, b7, b8, b9)) :
    wpX_doesFit post (nI cn, nI n, o, a1, a2, a3, t, a5, a6, a7, a8, a9) 0 0 (nI n) := by
  obtain ⟨j1, j2, j3, j4, j5, j6, j7⟩ := id hG
  have hE0 : ∀ (q : Nat) (ps : Int32 → St2 → Prop) (o : Int32) (a5 a6 a7 a8 a9 : Nat → Int32), q ≤ n → (∀ r o' b5 b6 b7 b8 b9, (∀ p, p < 32 → (gb_t r p = true ↔ gl_A cn n t w q p)) → ps r (nI cn, nI n, o', a1, a2, a3, t, b5, b6, b7, b8, b9)) → wpX_endsOf ps (nI cn, nI n, o, a1, a2, a3, t, a5, a6, a7, a8, a9) 0 (nI q) :=
    fun q ps o a5 a6 a7 a8 a9 hq K => gw_ends hn hG hq K
  have c0 : a3 (nI 0).toNatClampNeg = 2 := by
    rw [nI_clamp (by omega)]
    exact j3
  refine nm_e ⟨3, ⟨pk_in 0 12 (by omega), br_f (c := a3 (nI 0).toNatClampNeg ≤ nI 0) (by rw [c0]; decide) ?_⟩⟩
  refine gw_df25 (ru := 0) (k := 0) (R := gl_A cn n t w) hn (by omega) (by rw [show 3 * 0 + 0 = 0 from rfl, j4]; exact hE0) (fun x6 o' b5 b6 b7 b8 b9 h1 => ⟨pk_in 0 12 (by omega), br_f (c := a3 (nI 0).toNatClampNeg ≤ nI 1) (by rw [c0]; decide) ?_⟩)
  refine gw_df25 (ru := 0) (k := 1) (R := gl_A cn n t w) hn (by omega) (by rw [show 3 * 0 + 1 = 1 from rfl, j5]; exact hE0) (fun y6 o2 c5 c6 c7 c8 c9 h2 => ⟨pk_in 0 12 (by omega), br_t (c := a3 (nI 0).toNatClampNeg ≤ nI 2) (by rw [c0]; decide) ?_⟩)
  have hb : gb_t y6 n = true ↔ ∃ q, gl_A cn n t w 0 q ∧ gl_A cn n t w q n := by
    rw [h2 n (by omega)]
    constructor
    · rintro ⟨q, y1, y2, y3⟩
      rw [h1 q (by omega)] at y2
      obtain ⟨q', u1, u2, u3⟩ := y2
      have e0 : gb_t ((1 : Int32) <<< (nI 0 &&& 31)) q' = true := u2
      rw [gb_one 0 (by omega) q' (by omega), decide_eq_true_iff] at e0
      rw [e0] at u3
      exact ⟨q, u3, y3⟩
    · rintro ⟨q, y1, y2⟩
      have := y1.2.2.1
      refine ⟨q, by omega, (h1 q (by omega)).mpr ⟨0, by omega, ?_, y1⟩, y2⟩
      show gb_t ((1 : Int32) <<< (nI 0 &&& 31)) 0 = true
      rw [gb_one 0 (by omega) 0 (by omega)]
      rfl
  exact gx_br (by omega) hb (fun p => H _ _ _ _ _ _ _ (fun _ => rfl) (fun q => absurd p q)) (fun p => H _ _ _ _ _ _ _ (fun q => absurd q p) (fun _ => rfl))
/-- doesFit of rule 1 from place 0 to the text's end -/
theorem gw_df1 (hn : n ≤ 8) (hG : gl_G 2 w a1 a2 a3)
    (H : ∀ r o' b5 b6 b7 b8 b9, ((0 < n ∧ t 0 = w ∧ n = 1) → r = 1) → (¬ (0 < n ∧ t 0 = w ∧ n = 1) → r = 0) → post r (nI 2, nI n, o', a1, a2, a3, t, b5, b6, b7, b8, b9)) :
    wpX_doesFit post (nI 2, nI n, o, a1, a2, a3, t, a5, a6, a7, a8, a9) 1 0 (nI n) := by
  obtain ⟨j1, j2, j3, j4, j5, j6, j7⟩ := id hG
  obtain ⟨j8, j9, j10⟩ := j7 rfl
  have hE0 : ∀ (q : Nat) (ps : Int32 → St2 → Prop) (o : Int32) (a5 a6 a7 a8 a9 : Nat → Int32), q ≤ n → (∀ r o' b5 b6 b7 b8 b9, (∀ p, p < 32 → (gb_t r p = true ↔ (q < n ∧ t q = w ∧ p = q + 1))) → ps r (nI 2, nI n, o', a1, a2, a3, t, b5, b6, b7, b8, b9)) → wpX_endsOf ps (nI 2, nI n, o, a1, a2, a3, t, a5, a6, a7, a8, a9) w (nI q) :=
    fun q ps o a5 a6 a7 a8 a9 hq K => gw_endl hn j6 hq (fun r hb => K r _ _ _ _ _ _ hb)
  have c0 : a3 (nI 1).toNatClampNeg = 1 := by
    rw [nI_clamp (by omega)]
    exact j9
  refine nm_e ⟨2, ⟨pk_in 1 12 (by omega), br_f (c := a3 (nI 1).toNatClampNeg ≤ nI 0) (by rw [c0]; decide) ?_⟩⟩
  refine gw_df25 (cn := 2) (ru := 1) (k := 0) (R := fun q p => q < n ∧ t q = w ∧ p = q + 1) hn (by omega) (by rw [show 3 * 1 + 0 = 3 from rfl, j10]; exact hE0) (fun x6 o' b5 b6 b7 b8 b9 h1 => ⟨pk_in 1 12 (by omega), br_t (c := a3 (nI 1).toNatClampNeg ≤ nI 1) (by rw [c0]; decide) ?_⟩)
  have hb : gb_t x6 n = true ↔ (0 < n ∧ t 0 = w ∧ n = 1) := by
    rw [h1 n (by omega)]
    constructor
    · rintro ⟨q, y1, y2, y3, y4, y5⟩
      have e0 : gb_t ((1 : Int32) <<< (nI 0 &&& 31)) q = true := y2
      rw [gb_one 0 (by omega) q (by omega), decide_eq_true_iff] at e0
      rw [e0] at y3 y4 y5
      exact ⟨y3, y4, y5⟩
    · rintro ⟨y1, y2, y3⟩
      refine ⟨0, by omega, ?_, y1, y2, y3⟩
      show gb_t ((1 : Int32) <<< (nI 0 &&& 31)) 0 = true
      rw [gb_one 0 (by omega) 0 (by omega)]
      rfl
  exact gx_br (by omega) hb (fun p => H _ _ _ _ _ _ _ (fun _ => rfl) (fun q => absurd p q)) (fun p => H _ _ _ _ _ _ _ (fun q => absurd q p) (fun _ => rfl))
theorem gw_ways (hn : n ≤ 8) (hG : gl_G 2 w a1 a2 a3)
    (H : ∀ r o' b5 b6 b7 b8 b9, (gl_A 2 n t w 0 n → r = 1) → (¬ gl_A 2 n t w 0 n → r = 0) → post r (nI 2, nI n, o', a1, a2, a3, t, b5, b6, b7, b8, b9)) :
    wpX_ways post (nI 2, nI n, o, a1, a2, a3, t, a5, a6, a7, a8, a9) 0 0 (nI n) := by
  obtain ⟨j1, j2, j3, j4, j5, j6, j7⟩ := id hG
  obtain ⟨j8, j9, j10⟩ := j7 rfl
  have c0 : a1 (nI 0).toNatClampNeg = 0 := by
    rw [nI_clamp (by omega)]
    exact j2
  have c1 : a1 (nI 1).toNatClampNeg = 0 := by
    rw [nI_clamp (by omega)]
    exact j8
  have step2 : ∀ (x4 o : Int32) (a5 a6 a7 a8 a9 : Nat → Int32), (gl_A 2 n t w 0 n → x4 = 1) → (¬ gl_A 2 n t w 0 n → x4 = 0) → wX_ways_27 post 0 0 (nI n) 1 x4 (nI 2) (nI 2) (nI n) o a1 a2 a3 t a5 a6 a7 a8 a9 :=
    fun x4 o a5 a6 a7 a8 a9 k1 k2 => pk_le 2 2 (fun _ => H _ _ _ _ _ _ _ k1 k2) (fun z => absurd z (by omega))
  have step1 : ∀ (x4 o : Int32) (a5 a6 a7 a8 a9 : Nat → Int32), ((∃ q, gl_A 2 n t w 0 q ∧ gl_A 2 n t w q n) → x4 = 1) → (¬ (∃ q, gl_A 2 n t w 0 q ∧ gl_A 2 n t w q n) → x4 = 0) → wX_ways_27 post 0 0 (nI n) 2 x4 (nI 1) (nI 2) (nI n) o a1 a2 a3 t a5 a6 a7 a8 a9 := by
    intro x4 o a5 a6 a7 a8 a9 k1 k2
    refine pk_le 2 1 (fun z => absurd z (by omega)) (fun _ => ⟨pk_in 1 12 (by omega), br_t c1 ?_⟩)
    refine gw_df1 hn hG (fun r o' b5 b6 b7 b8 b9 m1 m2 => ?_)
    by_cases P1 : 0 < n ∧ t 0 = w ∧ n = 1
    · have P0 : ¬ ∃ q, gl_A 2 n t w 0 q ∧ gl_A 2 n t w q n := by
        rintro ⟨q, y1, y2⟩
        have := y1.2.1
        have := y2.2.1
        omega
      have hA : gl_A 2 n t w 0 n := ⟨rfl, P1.1, Nat.le_refl n, fun k y1 y2 => by rw [show k = 0 by omega]; exact P1.2.1⟩
      rw [m1 P1, k2 P0]
      exact br_f (by decide) (nm_e (nm_r (nI_1 1) (step2 _ _ _ _ _ _ _ (fun _ => by decide) (fun z => absurd hA z))))
    · rw [m2 P1]
      refine br_t rfl (nm_r (nI_1 1) (step2 _ _ _ _ _ _ _ (fun hA => k1 ?_) (fun hA => k2 ?_)))
      · obtain ⟨y1, y2, y3, y4⟩ := hA
        have hne : n ≠ 1 := fun z => P1 ⟨y2, y4 0 (by omega) y2, z⟩
        exact ⟨1, ⟨rfl, by omega, by omega, fun k u1 u2 => y4 k u1 (by omega)⟩, ⟨rfl, by omega, y3, fun k u1 u2 => y4 k (by omega) u2⟩⟩
      · rintro ⟨q, y1, y2⟩
        exact hA (gl_Atr y1 y2)
  refine br_f (by decide) (br_f (by decide) (br_f (by decide) (br_f (by decide) ?_)))
  refine pk_lt n 0 (fun z => absurd z (by omega)) (fun _ => pk_lt n n (fun z => absurd z (by omega)) (fun _ => br_f (by decide) ⟨3, ?_⟩))
  refine pk_le 2 0 (fun z => absurd z (by omega)) (fun _ => ⟨pk_in 0 12 (by omega), br_t c0 ?_⟩)
  refine gw_df0 (cn := 2) hn hG (fun r o' b5 b6 b7 b8 b9 m1 m2 => ?_)
  by_cases P0 : ∃ q, gl_A 2 n t w 0 q ∧ gl_A 2 n t w q n
  · rw [m1 P0]
    exact br_f (by decide) (nm_e (nm_r (nI_1 0) (step1 _ _ _ _ _ _ _ (fun _ => by decide) (fun z => absurd P0 z))))
  · rw [m2 P0]
    exact br_t rfl (nm_r (nI_1 0) (step1 _ _ _ _ _ _ _ (fun z => absurd z P0) (fun _ => rfl)))
/-- one letter is tried -/
theorem gw_nl1 {f lt : Nat} {x1 : Int32} (hn : n + 1 ≤ 8) (hlt : 5 ≤ lt + 1) (hlt2 : lt < 8) (hG : gl_G 2 w a1 a2 a3)
    (K : ∀ x1' o' b5 b6 b7 b8 b9, (((∀ k, k < n → t k = w) ∧ nI (lt + 1) = w) → x1' = nI (lt + 1)) → (¬ ((∀ k, k < n → t k = w) ∧ nI (lt + 1) = w) → x1' = x1) → wX_nextLetter_26 post f x1' (nI lt) (nI 2) (nI (n + 1)) o' a1 a2 a3 (upd t n (nI (lt + 1))) b5 b6 b7 b8 b9) :
    wX_nextLetter_26 post (f + 1) x1 (nI (lt + 1)) (nI 2) (nI (n + 1)) o a1 a2 a3 t a5 a6 a7 a8 a9 := by
  refine pk_lt (lt + 1) 5 (fun z => absurd z (by omega)) (fun _ => ?_)
  rw [nI_pred, nI_clamp (show n < 2 ^ 31 by omega)]
  refine ⟨vp_in_nI (by omega) (by omega), nm_e ?_⟩
  refine gw_ends (cn := 2) (i := 0) hn hG (Nat.zero_le _) (fun r o' b5 b6 b7 b8 b9 hb => ?_)
  have hP : gl_A 2 (n + 1) (upd t n (nI (lt + 1))) w 0 (n + 1) ↔ ((∀ k, k < n → t k = w) ∧ nI (lt + 1) = w) := by
    constructor
    · rintro ⟨y1, y2, y3, y4⟩
      refine ⟨fun k hk => ?_, ?_⟩
      · have := y4 k (by omega) (by omega)
        rw [pk_un (by omega)] at this
        exact this
      · have := y4 n (by omega) (by omega)
        rw [pk_us] at this
        exact this
    · rintro ⟨y1, y2⟩
      refine ⟨rfl, by omega, by omega, fun k u1 u2 => ?_⟩
      by_cases g : k = n
      · rw [g, pk_us]
        exact y2
      · rw [pk_un g]
        exact y1 k (by omega)
  have hb' := (hb (n + 1) (by omega)).trans hP
  exact gx_br (by omega) hb' (fun p => nm_r (pk_m1 lt) (K _ _ _ _ _ _ _ (fun _ => rfl) (fun z => absurd p z))) (fun p => nm_r (pk_m1 lt) (K _ _ _ _ _ _ _ (fun z => absurd z p) (fun _ => rfl)))
theorem gw_next {c : Nat} (hn : n ≤ 7) (hc : c < 3) (hw : w = nI (5 + c)) (hG : gl_G 2 w a1 a2 a3)
    (H : ∀ r t' o' b5 b6 b7 b8 b9, (∀ k, k < n → t' k = t k) → ((∀ k, k < n → t k = w) → r = w) → (¬ (∀ k, k < n → t k = w) → r = 0) → post r (nI 2, nI n, o', a1, a2, a3, t', b5, b6, b7, b8, b9)) :
    wpX_nextLetter post (nI 2, nI n, o, a1, a2, a3, t, a5, a6, a7, a8, a9) := by
  refine pk_eq n 8 (fun z => absurd z (by omega)) (fun _ => nm_r (nI_1 n) ⟨4, ?_⟩)
  have up : ∀ (s : Nat → Int32) (x : Int32), (∀ k, k < n → upd s n x k = w) ↔ (∀ k, k < n → s k = w) := by
    intro s x
    constructor
    · intro z k hk
      have := z k hk
      rw [pk_un (by omega)] at this
      exact this
    · intro z k hk
      rw [pk_un (by omega)]
      exact z k hk
  refine gw_nl1 (lt := 6) (by omega) (by omega) (by omega) hG (fun x1 o1 b5 b6 b7 b8 b9 p1 p2 => ?_)
  refine gw_nl1 (lt := 5) (by omega) (by omega) (by omega) hG (fun x2 o2 c5 c6 c7 c8 c9 q1 q2 => ?_)
  refine gw_nl1 (lt := 4) (by omega) (by omega) (by omega) hG (fun x3 o3 d5 d6 d7 d8 d9 r1 r2 => ?_)
  refine pk_lt 4 5 (fun _ => nm_r (nI_pred n) ?_) (fun z => absurd z (by omega))
  rw [up] at q1 q2
  rw [up, up] at r1 r2
  refine H _ _ _ _ _ _ _ _ (fun k hk => ?_) (fun hA => ?_) (fun hA => ?_)
  · rw [pk_un (by omega), pk_un (by omega), pk_un (by omega)]
  · have ne : ∀ a, a < 8 → (nI a = w ↔ a = 5 + c) := fun a ha => by rw [hw]; exact nI_eq (by omega) (by omega)
    rw [ne 7 (by omega)] at p1 p2
    rw [ne 6 (by omega)] at q1 q2
    rw [ne 5 (by omega)] at r1 r2
    by_cases c0 : c = 0
    · rw [r1 ⟨hA, by omega⟩, hw, c0]
    · rw [r2 (fun z => by omega)]
      by_cases c1 : c = 1
      · rw [q1 ⟨hA, by omega⟩, hw, c1]
      · rw [q2 (fun z => by omega), p1 ⟨hA, by omega⟩, hw, show c = 2 by omega]
  · rw [r2 (fun z => hA z.1), q2 (fun z => hA z.1), p2 (fun z => hA z.1)]
end
end
section
/-! stretches, longest, drop, write, rule -/
/-- how many pairs (i, j) with i < k and j <= n are in F -/
def gl_m (F : Nat → Nat → Bool) (n : Nat) : Nat → Nat
  | 0 => 0
  | k + 1 => gl_m F n k + gl_n (F k) (n + 1)
section
variable {cn n : Nat} {t : Nat → Int32} {w : Int32} {o c0 s0 : Int32} {a1 a2 a3 a4 a5 a6 a7 a8 a9 : Nat → Int32} {post : Int32 → St2 → Prop}
theorem gw_str32 {J : Int32 → Int32 → Int32 → Int32 → Int32 → (Nat → Int32) → (Nat → Int32) → (Nat → Int32) → (Nat → Int32) → (Nat → Int32) → (Nat → Int32) → (Nat → Int32) → (Nat → Int32) → (Nat → Int32) → Prop} {x1 x3 r : Int32} {m : Nat} {G : Nat → Bool} (hn : n ≤ 8)
    (hG : ∀ j, j < n + 1 → gb_t r j = G j) (H : J (nI (m + gl_n G (n + 1))) (x3 + 1) c0 (nI n) o a1 a2 a3 t a5 a6 a7 a8 a9) :
    ∃ fu, wX_stretches_32 post J x1 x3 r c0 (nI n) o a1 a2 a3 t a5 a6 a7 a8 a9 fu (nI m) 0 := by
  refine pk_loop (σ := Unit) (fun f j _ => wX_stretches_32 post J x1 x3 r c0 (nI n) o a1 a2 a3 t a5 a6 a7 a8 a9 f (nI (m + gl_n G j)) (nI j)) (fun _ _ => True) (n + 1) 0 () (Nat.zero_le _) trivial ?_ ?_
  · exact fun f _ _ => pk_lt n (n + 1) (fun _ => nm_e H) (fun z => absurd z (by omega))
  · intro f j _ hj _ hw
    refine pk_lt n j (fun z => absurd z (by omega)) (fun _ => nm_r ?_ (nm_r (nI_1 j) (hw () trivial)))
    rw [gb_sr r (show j < 32 by omega), hG j hj]
    show _ = nI (m + (gl_n G j + (if G j = true then 1 else 0)))
    cases G j
    · rw [if_neg (by decide), if_neg (by decide), Int32.add_zero, Nat.add_zero]
    · rw [if_pos rfl, if_pos rfl, nI_1, Nat.add_assoc]
theorem gw_stretch {F : Nat → Nat → Bool} (hn : n ≤ 8) (hG : gl_G cn w a1 a2 a3) (hF : ∀ i j, i ≤ n → j ≤ n → (gl_A cn n t w i j ↔ F i j = true))
    (H : ∀ o' b5 b6 b7 b8 b9, post (nI (gl_m F n (n + 1))) (nI cn, nI n, o', a1, a2, a3, t, b5, b6, b7, b8, b9)) :
    wpX_stretches post (nI cn, nI n, o, a1, a2, a3, t, a5, a6, a7, a8, a9) 0 := by
  refine br_f (by decide) (br_f (by decide) (br_f (by decide) ?_))
  refine pk_loop (σ := Int32 × (Nat → Int32) × (Nat → Int32) × (Nat → Int32) × (Nat → Int32) × (Nat → Int32))
    (fun f i s => wX_stretches_13 post 0 f (nI (gl_m F n i)) (nI i) (nI cn) (nI n) s.1 a1 a2 a3 t s.2.1 s.2.2.1 s.2.2.2.1 s.2.2.2.2.1 s.2.2.2.2.2) (fun _ _ => True) (n + 1) 0 (o, a5, a6, a7, a8, a9) (Nat.zero_le _) trivial ?_ ?_
  · exact fun f s _ => pk_lt n (n + 1) (fun _ => H _ _ _ _ _ _) (fun z => absurd z (by omega))
  · intro f i s hi _ hw
    refine pk_lt n i (fun z => absurd z (by omega)) (fun _ => ?_)
    refine gw_ends hn hG (show i ≤ n by omega) (fun r o' b5 b6 b7 b8 b9 hb => ?_)
    refine gw_str32 (G := F i) hn (fun j hj => ?_) ?_
    · have := (hb j (by omega)).trans (hF i j (by omega) (by omega))
      exact Bool.eq_iff_iff.mpr this
    · rw [nI_1]
      exact hw (o', b5, b6, b7, b8, b9) trivial
theorem gw_lon33a {J : Int32 → Int32 → Int32 → Int32 → Int32 → (Nat → Int32) → (Nat → Int32) → (Nat → Int32) → (Nat → Int32) → (Nat → Int32) → (Nat → Int32) → (Nat → Int32) → (Nat → Int32) → (Nat → Int32) → Prop} {x1 r : Int32} (hn : n ≤ 8) (h0 : 0 < n)
    (hb : ∀ j, j < n + 1 → (gb_t r j = true ↔ 0 < j)) (H : J (nI n) (nI 1) c0 (nI n) o a1 a2 a3 t a5 a6 a7 a8 a9) :
    ∃ fu, wX_longest_33 post J x1 0 r c0 (nI n) o a1 a2 a3 t a5 a6 a7 a8 a9 fu (-2) 0 := by
  refine pk_loop (σ := Int32) (fun f j s => wX_longest_33 post J x1 0 r c0 (nI n) o a1 a2 a3 t a5 a6 a7 a8 a9 f s (nI j)) (fun j s => (j ≤ 1 → s = -2) ∧ (1 < j → s = nI (j - 1))) (n + 1) 0 (-2) (Nat.zero_le _) ⟨fun _ => rfl, fun z => absurd z (by omega)⟩ ?_ ?_
  · intro f s hs
    rw [hs.2 (by omega)]
    exact pk_lt n (n + 1) (fun _ => nm_r (nI_1 0) H) (fun z => absurd z (by omega))
  · intro f j s hj hs hw
    refine pk_lt n j (fun z => absurd z (by omega)) (fun _ => ?_)
    have e0 : nI j - 0 = nI j := Int32.sub_zero _
    rw [e0]
    refine gx_br (show j < 32 by omega) (hb j hj) (fun z => br_f ?_ (nm_e (nm_r (nI_1 j) (hw _ ⟨fun y => absurd y (by omega), fun _ => by rw [Nat.add_sub_cancel]⟩)))) (fun z => nm_r (nI_1 j) (hw s ⟨fun y => hs.1 (by omega), fun y => absurd y (by omega)⟩))
    by_cases q : j ≤ 1
    · rw [hs.1 q, show j = 1 by omega]
      decide
    · rw [hs.2 (by omega)]
      exact nI_ge (by omega) (by omega)
theorem gw_lon33b {J : Int32 → Int32 → Int32 → Int32 → Int32 → (Nat → Int32) → (Nat → Int32) → (Nat → Int32) → (Nat → Int32) → (Nat → Int32) → (Nat → Int32) → (Nat → Int32) → (Nat → Int32) → (Nat → Int32) → Prop} {x1 r : Int32} {i : Nat} (hn : n ≤ 8) (hi : i < n + 1)
    (H : J (nI n) (nI (i + 1)) c0 (nI n) o a1 a2 a3 t a5 a6 a7 a8 a9) :
    ∃ fu, wX_longest_33 post J x1 (nI i) r c0 (nI n) o a1 a2 a3 t a5 a6 a7 a8 a9 fu (nI n) (nI i) := by
  refine pk_loop (σ := Unit) (fun f j _ => wX_longest_33 post J x1 (nI i) r c0 (nI n) o a1 a2 a3 t a5 a6 a7 a8 a9 f (nI n) (nI j)) (fun j _ => i ≤ j) (n + 1) i () (by omega) (Nat.le_refl i) ?_ ?_
  · exact fun f _ _ => pk_lt n (n + 1) (fun _ => nm_r (nI_1 i) H) (fun z => absurd z (by omega))
  · intro f j _ hj hs hw
    refine pk_lt n j (fun z => absurd z (by omega)) (fun _ => ?_)
    have nx := hw () (by omega)
    refine gb_br (gb_sr r (show j < 32 by omega)) (fun z => br_t ?_ (nm_r (nI_1 j) nx)) (fun z => nm_r (nI_1 j) nx)
    rw [pk_sub hs]
    exact nI_le (by omega) (by omega)
theorem gw_longest (hn : n ≤ 8) (h0 : 0 < n) (hG : gl_G cn w a1 a2 a3) (hF : ∀ i j, i ≤ n → j ≤ n → (gl_A cn n t w i j ↔ i < j))
    (H : ∀ o' b5 b6 b7 b8 b9, post (nI n) (nI cn, nI n, o', a1, a2, a3, t, b5, b6, b7, b8, b9)) :
    wpX_longest post (nI cn, nI n, o, a1, a2, a3, t, a5, a6, a7, a8, a9) 0 := by
  refine br_f (by decide) (br_f (by decide) (br_f (by decide) ?_))
  refine pk_loop (σ := Int32 × Int32 × (Nat → Int32) × (Nat → Int32) × (Nat → Int32) × (Nat → Int32) × (Nat → Int32))
    (fun f i s => wX_longest_14 post 0 f s.1 (nI i) (nI cn) (nI n) s.2.1 a1 a2 a3 t s.2.2.1 s.2.2.2.1 s.2.2.2.2.1 s.2.2.2.2.2.1 s.2.2.2.2.2.2) (fun i s => (i = 0 → s.1 = -2) ∧ (0 < i → s.1 = nI n)) (n + 1) 0 (-2, o, a5, a6, a7, a8, a9) (Nat.zero_le _) ⟨fun _ => rfl, fun z => absurd z (by omega)⟩ ?_ ?_
  · intro f s hs
    rw [hs.2 (by omega)]
    exact pk_lt n (n + 1) (fun _ => H _ _ _ _ _ _) (fun z => absurd z (by omega))
  · intro f i s hi hs hw
    refine pk_lt n i (fun z => absurd z (by omega)) (fun _ => ?_)
    refine gw_ends hn hG (show i ≤ n by omega) (fun r o' b5 b6 b7 b8 b9 hb => ?_)
    by_cases q : i = 0
    · subst q
      rw [hs.1 rfl]
      exact gw_lon33a hn h0 (fun j hj => (hb j (by omega)).trans (hF 0 j (by omega) (by omega))) (hw (nI n, o', b5, b6, b7, b8, b9) ⟨fun z => absurd z (by omega), fun _ => rfl⟩)
    · rw [hs.2 (by omega)]
      exact gw_lon33b hn hi (hw (nI n, o', b5, b6, b7, b8, b9) ⟨fun z => absurd z (by omega), fun _ => rfl⟩)
theorem gw_drop (H : post 1 (nI 1, s0, o, a1, a2, a3, a4, a5, a6, a7, a8, a9)) : wpX_drop post (nI 2, s0, o, a1, a2, a3, a4, a5, a6, a7, a8, a9) 1 := by
  refine br_f (by decide) (br_f (by decide) (br_f (by decide) (nm_r (e' := nI 2) (by decide) ⟨1, br_t (by decide) (nm_r (e' := nI 1) (by decide) ?_)⟩)))
  exact H
theorem gw_w53 {k code : Nat} (hk : k ≤ 8) (hc : code < 3 ^ k)
    (H : ∀ t', (∀ j, j < k → t' j = nI (5 + code / 3 ^ (k - 1 - j) % 3)) → post (nI k) (c0, nI k, o, a1, a2, a3, t', a5, a6, a7, a8, a9)) :
    ∃ fu, wX_write_53 post (nI k) c0 s0 o fu (nI code) (nI k - 1) a1 a2 a3 a4 a5 a6 a7 a8 a9 := by
  have h38 : 3 ^ k ≤ 3 ^ 8 := Nat.pow_le_pow_right (by omega) hk
  have hdiv : ∀ e, code / 3 ^ e ≤ code := fun e => Nat.div_le_self _ _
  have main := pk_loopD (σ := Nat → Int32) (fun f j s => wX_write_53 post (nI k) c0 s0 o f (nI (code / 3 ^ (k - j))) (nI j - 1) a1 a2 a3 s a5 a6 a7 a8 a9)
    (fun j s => j ≤ k ∧ ∀ i, j ≤ i → i < k → s i = nI (5 + code / 3 ^ (k - 1 - i) % 3)) ?_ ?_ k a4 ⟨Nat.le_refl k, fun i h1 h2 => absurd h2 (by omega)⟩
  · refine ⟨k + 1, ?_⟩
    have m2 : wX_write_53 post (nI k) c0 s0 o (k + 1) (nI (code / 3 ^ (k - k))) (nI k - 1) a1 a2 a3 a4 a5 a6 a7 a8 a9 := main
    rw [Nat.sub_self, Nat.pow_zero, Nat.div_one] at m2
    exact m2
  · intro f s hs
    exact br_t (show nI 0 - 1 < 0 by decide) (H s (fun j hj => hs.2 j (by omega) hj))
  · intro f j s hs hw
    have hd := hdiv (k - (j + 1))
    have e3 : nI (code / 3 ^ (k - (j + 1))) / 3 = nI (code / 3 ^ (k - j)) := by
      refine (pk_div (a := code / 3 ^ (k - (j + 1))) (d := 3) (by omega) (by omega) (by omega)).trans (congrArg nI ?_)
      rw [Nat.div_div_eq_div_mul, ← Nat.pow_succ, show (k - (j + 1)).succ = k - j by omega]
    have e4 : (5 : Int32) + (nI (code / 3 ^ (k - (j + 1))) - nI (code / 3 ^ (k - (j + 1))) / 3 * 3) = nI (5 + code / 3 ^ (k - (j + 1)) % 3) := by
      have e := pk_rem (a := code / 3 ^ (k - (j + 1))) (d := 3) (by omega) (by omega) (by omega)
      have e' : nI (code / 3 ^ (k - (j + 1))) - nI (code / 3 ^ (k - (j + 1))) / 3 * 3 = nI (code / 3 ^ (k - (j + 1)) % 3) := e
      rw [e']
      exact nI_add 5 _
    show wX_write_53 post (nI k) c0 s0 o (f + 1) (nI (code / 3 ^ (k - (j + 1)))) (nI (j + 1) - 1) a1 a2 a3 s a5 a6 a7 a8 a9
    rw [nI_pred]
    refine br_f (nI_pos (by omega)) ⟨by decide, vp_in_nI (by omega) (by omega), ?_⟩
    rw [nI_clamp (show j < 2 ^ 31 by omega)]
    refine nm_r (congrArg (upd s j) e4) ⟨by decide, nm_r e3 (nm_r (Int32.sub_eq_add_neg (nI j) 1).symm (hw _ ⟨by omega, fun i h1 h2 => ?_⟩))⟩
    by_cases q : i = j
    · rw [q, pk_us, show k - (j + 1) = k - 1 - j by omega]
    · rw [pk_un q]
      exact hs.2 i (by omega) h2
theorem gw_write {k : Nat} {p1 : Int32} (hk : k ≤ 8) (H0 : (p1 < 0 ∨ ¬ p1 < nI (3 ^ k)) → post (-2) (c0, s0, o, a1, a2, a3, a4, a5, a6, a7, a8, a9))
    (H1 : ∀ code, code < 3 ^ k → p1 = nI code → ∀ t', (∀ j, j < k → t' j = nI (5 + code / 3 ^ (k - 1 - j) % 3)) → post (nI k) (c0, nI k, o, a1, a2, a3, t', a5, a6, a7, a8, a9)) :
    wpX_write post (c0, s0, o, a1, a2, a3, a4, a5, a6, a7, a8, a9) (nI k) p1 := by
  have h38 : 3 ^ k ≤ 3 ^ 8 := Nat.pow_le_pow_right (by omega) hk
  refine br_f (nI_pos (by omega)) (pk_le k 8 (fun _ => ?_) (fun z => absurd z (by omega)))
  refine pk_loop (σ := Unit) (fun f j _ => wX_write_17 post (nI k) p1 c0 s0 o a1 a2 a3 a4 a5 a6 a7 a8 a9 f (nI (3 ^ j)) (nI j)) (fun _ _ => True) k 0 () (Nat.zero_le _) trivial ?_ ?_
  · intro f _ _
    refine pk_le k k (fun _ => br_c (fun z => H0 (Or.inl z)) (fun z => br_c (fun y => nm_e ?_) (fun y => H0 (Or.inr y)))) (fun z => absurd z (by omega))
    obtain ⟨code, q1, q2⟩ := nI_of z
    rw [q2] at y
    have q3 : code < 3 ^ k := (nI_ltI q1 (by omega)).mp y
    rw [q2]
    exact gw_w53 hk q3 (fun t' ht => H1 code q3 q2 t' ht)
  · intro f j _ hj _ hw
    exact pk_le k j (fun z => absurd z (by omega)) (fun _ => nm_r ((pk_mul (3 ^ j) 3).trans (congrArg nI (Nat.pow_succ 3 j).symm)) (nm_r (nI_1 j) (hw () trivial)))
theorem gw_rule1 (H : ∀ b1 b2 b3 : Nat → Int32, b1 0 = 0 → b2 0 = 0 → b2 1 = 0 → b3 0 = 2 → post 0 (nI 1, s0, o, b1, b2, b3, a4, a5, a6, a7, a8, a9)) :
    wpX_rule post (0, s0, o, a1, a2, a3, a4, a5, a6, a7, a8, a9) 0 10 := by
  refine br_f (by decide) (br_f (by decide) (br_f (by decide) (br_f (by decide) (br_t (by decide) ⟨3, ?_⟩))))
  refine br_f (by decide) ⟨by decide, br_f (by decide) (nm_r (e' := 1) (by decide) ⟨by decide, nm_r (e' := 1) (by decide) ?_⟩)⟩
  refine br_f (by decide) ⟨by decide, br_f (by decide) (nm_r (e' := 2) (by decide) ⟨by decide, nm_r (e' := 0) (by decide) ?_⟩)⟩
  refine br_t (by decide) (br_t (by decide) (br_f (by decide) ⟨pk_in 0 12 (by omega), nm_r (e' := upd a1 0 0) rfl ⟨pk_in 0 12 (by omega), nm_r (e' := upd a3 0 2) rfl (nm_r (e' := 1) (by decide) ⟨3, ?_⟩)⟩⟩))
  refine br_f (by decide) ⟨by decide, pk_in 1 36 (by omega), nm_r (e' := upd a2 1 0) rfl ⟨by decide, nm_r (e' := 1) (by decide) (nm_r (e' := 0) (by decide) ?_)⟩⟩
  refine br_f (by decide) ⟨by decide, pk_in 0 36 (by omega), nm_r (e' := upd (upd a2 1 0) 0 0) rfl ⟨by decide, nm_r (e' := 0) (by decide) (nm_r (e' := -1) (by decide) ?_)⟩⟩
  refine br_t (by decide) (nm_r (e' := nI 1) (by decide) ?_)
  exact H _ _ _ rfl rfl rfl rfl
theorem gw_rule2 {c : Nat} (hc : c < 3) (H : ∀ b1 b2 b3 : Nat → Int32, b1 0 = a1 0 → b1 1 = 0 → b2 0 = a2 0 → b2 1 = a2 1 → b2 3 = nI (5 + c) → b3 0 = a3 0 → b3 1 = 1 → post 1 (nI 2, s0, o, b1, b2, b3, a4, a5, a6, a7, a8, a9)) :
    wpX_rule post (nI 1, s0, o, a1, a2, a3, a4, a5, a6, a7, a8, a9) 0 (6 + nI c) := by
  have hcc : c = 0 ∨ c = 1 ∨ c = 2 := by omega
  rcases hcc with rfl | rfl | rfl
  · refine br_f (by decide) (br_f (by decide) (br_f (by decide) (br_f (by decide) (br_t (by decide) ⟨2, ?_⟩))))
    refine br_f (by decide) ⟨by decide, br_f (by decide) (nm_r (e' := 1) (by decide) ⟨by decide, nm_r (e' := 0) (by decide) ?_⟩)⟩
    refine br_t (by decide) (br_t (by decide) (br_f (by decide) ⟨pk_in 1 12 (by omega), nm_r (e' := upd a1 1 0) rfl ⟨pk_in 1 12 (by omega), nm_r (e' := upd a3 1 1) rfl (nm_r (e' := 0) (by decide) ⟨2, ?_⟩)⟩⟩))
    refine br_f (by decide) ⟨by decide, pk_in 3 36 (by omega), nm_r (e' := upd a2 3 (nI 5)) rfl ⟨by decide, nm_r (e' := 0) (by decide) (nm_r (e' := -1) (by decide) ?_)⟩⟩
    refine br_t (by decide) (nm_r (e' := nI 2) (by decide) ?_)
    exact H _ _ _ rfl rfl rfl rfl rfl rfl rfl
  · refine br_f (by decide) (br_f (by decide) (br_f (by decide) (br_f (by decide) (br_t (by decide) ⟨2, ?_⟩))))
    refine br_f (by decide) ⟨by decide, br_f (by decide) (nm_r (e' := 1) (by decide) ⟨by decide, nm_r (e' := 0) (by decide) ?_⟩)⟩
    refine br_t (by decide) (br_t (by decide) (br_f (by decide) ⟨pk_in 1 12 (by omega), nm_r (e' := upd a1 1 0) rfl ⟨pk_in 1 12 (by omega), nm_r (e' := upd a3 1 1) rfl (nm_r (e' := 0) (by decide) ⟨2, ?_⟩)⟩⟩))
    refine br_f (by decide) ⟨by decide, pk_in 3 36 (by omega), nm_r (e' := upd a2 3 (nI 6)) rfl ⟨by decide, nm_r (e' := 0) (by decide) (nm_r (e' := -1) (by decide) ?_)⟩⟩
    refine br_t (by decide) (nm_r (e' := nI 2) (by decide) ?_)
    exact H _ _ _ rfl rfl rfl rfl rfl rfl rfl
  · refine br_f (by decide) (br_f (by decide) (br_f (by decide) (br_f (by decide) (br_t (by decide) ⟨2, ?_⟩))))
    refine br_f (by decide) ⟨by decide, br_f (by decide) (nm_r (e' := 1) (by decide) ⟨by decide, nm_r (e' := 0) (by decide) ?_⟩)⟩
    refine br_t (by decide) (br_t (by decide) (br_f (by decide) ⟨pk_in 1 12 (by omega), nm_r (e' := upd a1 1 0) rfl ⟨pk_in 1 12 (by omega), nm_r (e' := upd a3 1 1) rfl (nm_r (e' := 0) (by decide) ⟨2, ?_⟩)⟩⟩))
    refine br_f (by decide) ⟨by decide, pk_in 3 36 (by omega), nm_r (e' := upd a2 3 (nI 7)) rfl ⟨by decide, nm_r (e' := 0) (by decide) (nm_r (e' := -1) (by decide) ?_)⟩⟩
    refine br_t (by decide) (nm_r (e' := nI 2) (by decide) ?_)
    exact H _ _ _ rfl rfl rfl rfl rfl rfl rfl
end
end
section
/-! the law -/
/-- the digits of a number below 3^n are all c -/
theorem gd_dig {c : Nat} (hc : c < 3) : ∀ n code : Nat, code < 3 ^ n → ((∀ e, e < n → code / 3 ^ e % 3 = c) ↔ 2 * code + c = c * 3 ^ n) := by
  intro n
  induction n with
  | zero =>
    intro code h
    rw [Nat.pow_zero] at h
    rw [Nat.pow_zero, Nat.mul_one]
    exact ⟨fun _ => by omega, fun _ e he => absurd he (by omega)⟩
  | succ n ih =>
    intro code h
    rw [Nat.pow_succ] at h
    have ih' := ih (code / 3) (by omega)
    rw [Nat.pow_succ, ← Nat.mul_assoc]
    generalize hX : c * 3 ^ n = X at ih' ⊢
    have e1 : ∀ e, code / 3 ^ (e + 1) = code / 3 / 3 ^ e := fun e => by rw [Nat.pow_succ', Nat.div_div_eq_div_mul]
    constructor
    · intro z
      have z0 := z 0 (by omega)
      rw [Nat.pow_zero, Nat.div_one] at z0
      have z1 := ih'.mp (fun e he => by rw [← e1]; exact z (e + 1) (by omega))
      omega
    · intro z
      have z0 : code % 3 = c := by omega
      have z1 := ih'.mpr (by omega)
      intro e he
      cases e with
      | zero => rw [Nat.pow_zero, Nat.div_one]; exact z0
      | succ e => rw [e1]; exact z1 e (by omega)
theorem gd_odd : ∀ n : Nat, 3 ^ n = 2 * ((3 ^ n - 1) / 2) + 1 := by
  intro n
  induction n with
  | zero => rfl
  | succ n ih =>
    rw [Nat.pow_succ]
    omega
theorem gd_all {c k code : Nat} (hc : c < 3) (h : code < 3 ^ k) : code = c * ((3 ^ k - 1) / 2) ↔ ∀ j, j < k → code / 3 ^ (k - 1 - j) % 3 = c := by
  have g := gd_dig hc k code h
  have ho := gd_odd k
  have e : c * 3 ^ k = 2 * (c * ((3 ^ k - 1) / 2)) + c := by
    conv => lhs; rw [ho]
    rw [Nat.mul_add, Nat.mul_one, Nat.mul_left_comm]
  rw [e] at g
  constructor
  · intro z j hj
    exact g.mpr (by omega) (k - 1 - j) (by omega)
  · intro z
    have := g.mp (fun e he => by
      have := z (k - 1 - e) (by omega)
      rw [show k - 1 - (k - 1 - e) = e by omega] at this
      exact this)
    omega
theorem gf_m0 : ∀ n, n < 9 → gl_m (fun _ _ => false) n (n + 1) = 0 := by decide
theorem gf_m1 : ∀ n, n < 9 → gl_m (fun i j => decide (i < j)) n (n + 1) = n * (n + 1) / 2 := by decide
section
variable {n c : Nat} {t : Nat → Int32} {w : Int32} {o : Int32} {a1 a2 a3 a5 a6 a7 a8 a9 : Nat → Int32} {mc ms kc ks : Nat}
theorem gf_344 (hn : n ≤ 8) (hG : gl_G 2 w a1 a2 a3) : wL_lawOf_344 (fun r _ => r = 1) mc ms kc ks (nI 2) (nI n) o a1 a2 a3 t a5 a6 a7 a8 a9 := by
  unfold wL_lawOf_344
  refine gw_drop ?_
  refine br_t rfl ?_
  refine gw_stretch (cn := 1) (w := w) (F := fun _ _ => false) hn ⟨Or.inl rfl, hG.2.1, hG.2.2.1, hG.2.2.2.1, hG.2.2.2.2.1, hG.2.2.2.2.2.1, fun z => absurd z (by decide)⟩ (fun i j _ _ => ⟨fun z => absurd z.1 (by decide), fun z => absurd z (by decide)⟩) (fun o' b5 b6 b7 b8 b9 => ?_)
  rw [gf_m0 n (by omega)]
  exact br_t rfl rfl
theorem gf_305 {y z : Int32} (hn : n ≤ 8) (hG : gl_G 2 w a1 a2 a3) (hy : ¬ y = 0 → 0 < n ∧ ∀ k, k < n → t k = w) : wL_lawOf_305 (fun r _ => r = 1) mc ms (nI n) y z z kc ks (nI 2) (nI n) o a1 a2 a3 t a5 a6 a7 a8 a9 := by
  refine br_t rfl (br_c (fun _ => gf_344 hn hG) (fun q => ?_))
  obtain ⟨h0, hall⟩ := hy q
  have hA : ∀ i j, i ≤ n → j ≤ n → (gl_A 2 n t w i j ↔ i < j) := fun i j hi hj => ⟨fun z => z.2.1, fun z => ⟨rfl, z, hj, fun k _ k2 => hall k (by omega)⟩⟩
  refine gw_longest (cn := 2) hn h0 hG hA (fun o' b5 b6 b7 b8 b9 => ?_)
  refine br_t rfl ?_
  refine gw_stretch (cn := 2) (F := fun i j => decide (i < j)) hn hG (fun i j hi hj => (hA i j hi hj).trans decide_eq_true_iff.symm) (fun o2 c5 c6 c7 c8 c9 => ?_)
  refine ⟨by decide, br_t ?_ (gf_344 hn hG)⟩
  rw [nI_1, pk_mul, gf_m1 n (by omega)]
  have hb : n * (n + 1) ≤ 8 * 9 := Nat.mul_le_mul hn (by omega)
  exact (pk_div (a := n * (n + 1)) (d := 2) (by omega) (by omega) (by omega)).symm
theorem gf_272 {x9 y z : Int32} (hn : n ≤ 8) (hc : c < 3) (hw : w = nI (5 + c)) (hG : gl_G 2 w a1 a2 a3) (h1 : (∀ k, k < n → t k = w) → x9 = 1) (h2 : ¬ (∀ k, k < n → t k = w) → x9 = 0) (hy : ¬ y = 0 → 0 < n ∧ ∀ k, k < n → t k = w) :
    wL_lawOf_272 (fun r _ => r = 1) mc ms (nI c) (nI n) x9 y z z kc ks (nI 2) (nI n) o a1 a2 a3 t a5 a6 a7 a8 a9 := by
  refine br_t rfl ?_
  by_cases n8 : n = 8
  · subst n8
    refine br_t rfl ?_
    exact br_t rfl (gf_305 hn hG hy)
  · refine gw_next (by omega) hc hw hG (fun r t' o' b5 b6 b7 b8 b9 k1 k2 k3 => ?_)
    have hy' : ¬ y = 0 → 0 < n ∧ ∀ k, k < n → t' k = w := fun q => ⟨(hy q).1, fun k hk => by rw [k1 k hk]; exact (hy q).2 k hk⟩
    refine pk_eq n 8 (fun q => absurd q n8) (fun _ => ?_)
    by_cases hall : ∀ k, k < n → t k = w
    · rw [h1 hall, k2 hall, hw, ← nI_add 5 c]
      rw [hw] at hG hy'
      exact br_f (by decide) (gf_305 (w := nI (5 + c)) hn hG hy')
    · rw [h2 hall, k3 hall]
      exact br_t rfl (gf_305 hn hG hy')
theorem gf_in : gl_A 2 n t w 0 n ↔ (0 < n ∧ ∀ k, k < n → t k = w) := ⟨fun z => ⟨z.2.1, fun k hk => z.2.2.2 k (Nat.zero_le _) hk⟩, fun z => ⟨rfl, z.1, Nat.le_refl n, fun k _ hk => z.2 k hk⟩⟩
theorem gf_251 {x9 y z : Int32} (hn : n ≤ 8) (hc : c < 3) (hw : w = nI (5 + c)) (hG : gl_G 2 w a1 a2 a3) (h1 : (∀ k, k < n → t k = w) → x9 = 1) (h2 : ¬ (∀ k, k < n → t k = w) → x9 = 0)
    (y1 : (0 < n ∧ ∀ k, k < n → t k = w) → y = 1) (y0 : ¬ (0 < n ∧ ∀ k, k < n → t k = w) → y = 0) :
    wL_lawOf_251 (fun r _ => r = 1) mc ms (nI c) (nI n) x9 y z z kc ks (nI 2) (nI n) o a1 a2 a3 t a5 a6 a7 a8 a9 := by
  refine br_t rfl ?_
  refine gw_ways hn hG (fun r o' b5 b6 b7 b8 b9 k1 k2 => ?_)
  by_cases hin : 0 < n ∧ ∀ k, k < n → t k = w
  · rw [y1 hin, k1 (gf_in.mpr hin)]
    exact br_f (by decide) (gf_272 hn hc hw hG h1 h2 (fun _ => hin))
  · rw [y0 hin, k2 (fun q => hin (gf_in.mp q))]
    exact br_t rfl (gf_272 hn hc hw hG h1 h2 (fun q => absurd rfl q))
theorem gf_235 {x9 y : Int32} (hn : n ≤ 8) (hc : c < 3) (hw : w = nI (5 + c)) (hG : gl_G 2 w a1 a2 a3) (h1 : (∀ k, k < n → t k = w) → x9 = 1) (h2 : ¬ (∀ k, k < n → t k = w) → x9 = 0)
    (y1 : (0 < n ∧ ∀ k, k < n → t k = w) → y = 1) (y0 : ¬ (0 < n ∧ ∀ k, k < n → t k = w) → y = 0) :
    wL_lawOf_235 (fun r _ => r = 1) mc ms (nI c) (nI n) x9 y kc ks (nI 2) (nI n) o a1 a2 a3 t a5 a6 a7 a8 a9 := by
  unfold wL_lawOf_235
  refine gw_accepts (cn := 2) hn hG (fun r o' b5 b6 b7 b8 b9 k1 k2 => ?_)
  by_cases hin : 0 < n ∧ ∀ k, k < n → t k = w
  · have e := y1 hin
    subst e
    rw [k1 (gf_in.mpr hin)]
    exact br_f (by decide) (gf_251 hn hc hw hG h1 h2 y1 y0)
  · have e := y0 hin
    subst e
    rw [k2 (fun q => hin (gf_in.mp q))]
    exact br_t rfl (gf_251 hn hc hw hG h1 h2 y1 y0)
theorem gf_218 {x9 : Int32} (hn : n ≤ 8) (hc : c < 3) (hw : w = nI (5 + c)) (hG : gl_G 2 w a1 a2 a3) (h1 : (∀ k, k < n → t k = w) → x9 = 1) (h2 : ¬ (∀ k, k < n → t k = w) → x9 = 0) :
    wL_lawOf_218 (fun r _ => r = 1) mc ms (nI c) (nI n) x9 kc ks (nI 2) (nI n) o a1 a2 a3 t a5 a6 a7 a8 a9 := by
  refine pk_le n 0 (fun z => ?_) (fun z => ?_)
  · exact gf_235 hn hc hw hG h1 h2 (fun q => absurd q.1 (by omega)) (fun _ => rfl)
  · by_cases hall : ∀ k, k < n → t k = w
    · have e := h1 hall
      subst e
      exact br_f (by decide) (gf_235 hn hc hw hG h1 h2 (fun _ => rfl) (fun q => absurd ⟨z, hall⟩ q))
    · have e := h2 hall
      subst e
      exact br_t rfl (gf_235 hn hc hw hG h1 h2 (fun q => absurd q.2 hall) (fun _ => rfl))
theorem gf_193 {x2 x6 : Int32} (hn : n ≤ 8) (hc : c < 3) (hw : w = nI (5 + c)) (hG : gl_G 2 w a1 a2 a3) (h : 0 < n → (x2 = nI c * ((x6 - 1) / 2) ↔ ∀ k, k < n → t k = w)) :
    wL_lawOf_193 (fun r _ => r = 1) mc ms x2 (nI c) x6 (nI n) kc ks (nI 2) (nI n) o a1 a2 a3 t a5 a6 a7 a8 a9 := by
  refine pk_eq n 0 (fun z => ?_) (fun z => ⟨by decide, br_c (fun q => ?_) (fun q => ?_)⟩)
  · exact gf_218 hn hc hw hG (fun _ => rfl) (fun q => absurd (fun k hk => absurd hk (by omega)) q)
  · exact gf_218 hn hc hw hG (fun _ => rfl) (fun g => absurd ((h (by omega)).mp q) g)
  · exact gf_218 hn hc hw hG (fun g => absurd ((h (by omega)).mpr g) q) (fun _ => rfl)
/-- what write leaves when it refuses: the text is empty -/
theorem gf_178 {x1 x2 x6 z : Int32} (hc : c < 3) (hw : w = nI (5 + c)) (hG : gl_G 2 w a1 a2 a3) :
    wL_lawOf_178 (fun r _ => r = 1) mc ms x1 x2 (nI c) x6 0 z z kc ks (nI 2) (nI 0) o a1 a2 a3 t a5 a6 a7 a8 a9 :=
  br_t rfl (br_t rfl (gf_193 (n := 0) (by omega) hc hw hG (fun z => absurd z (by omega))))
theorem gf_bad {p1 p2 : Int32} (h : p1 < 0 ∨ 8 < p1) (hc : c < 3) (hw : w = nI (5 + c)) (hG : gl_G 2 w a1 a2 a3) :
    wL_lawOf_55 (fun r _ => r = 1) mc ms p1 p2 (nI c) kc ks (nI 2) (nI 0) o a1 a2 a3 t a5 a6 a7 a8 a9 := by
  refine br_t rfl (br_t rfl (br_t rfl (br_t rfl (br_t rfl ?_))))
  unfold wL_lawOf_149 wL_lawOf_150
  by_cases q : p1 < 0
  · refine br_t q ?_
    exact br_t rfl (gf_178 hc hw hG)
  · refine br_f q (br_f ?_ ?_)
    · exact Int32.not_le.mpr (h.resolve_left q)
    · exact br_t rfl (gf_178 hc hw hG)
theorem gf_130 {k : Nat} {p2 x6 : Int32} (hk : k ≤ 8) (hc : c < 3) (hw : w = nI (5 + c)) (hG : gl_G 2 w a1 a2 a3) (h6 : x6 = nI (3 ^ k)) :
    wL_lawOf_130 (fun r _ => r = 1) mc ms (nI k) p2 (nI c) 1 x6 kc ks (nI 2) (nI 0) o a1 a2 a3 t a5 a6 a7 a8 a9 := by
  subst h6
  have h38 : 3 ^ k ≤ 3 ^ 8 := Nat.pow_le_pow_right (by omega) hk
  have bad : (p2 < 0 ∨ nI (3 ^ k) ≤ p2) → wL_lawOf_149 (fun r _ => r = 1) mc ms (nI k) p2 (nI c) 1 (nI (3 ^ k)) kc ks (nI 2) (nI 0) o a1 a2 a3 t a5 a6 a7 a8 a9 := by
    intro hb
    unfold wL_lawOf_149 wL_lawOf_150
    refine gw_write hk (fun _ => ?_) (fun code q1 q2 t' ht => ?_)
    · exact br_f (by decide) (br_t rfl (gf_178 hc hw hG))
    · exfalso
      rw [q2] at hb
      rcases hb with z | z
      · exact nI_pos (by omega) z
      · exact nI_ge q1 (by omega) z
  refine br_f (by decide) (br_c (fun z => bad (Or.inl z)) (fun z => br_c (fun y => bad (Or.inr y)) (fun y => ?_)))
  unfold wL_lawOf_150
  refine gw_write hk (fun q => ?_) (fun code q1 q2 t' ht => ?_)
  · exfalso
    rcases q with q | q
    · exact z q
    · exact q (Int32.not_le.mp y)
  · refine br_f (by decide) (br_f (by decide) ?_)
    refine br_t rfl (br_f (by decide) (gf_193 (n := k) hk hc hw hG (fun h0 => ?_)))
    have e1 : nI c * ((nI (3 ^ k) - 1) / 2) = nI (c * ((3 ^ k - 1) / 2)) := by
      have hp : 0 < 3 ^ k := Nat.pow_pos (by omega)
      have ea : nI (3 ^ k) - 1 = nI (3 ^ k - 1) := pk_sub (a := 3 ^ k) (b := 1) hp
      have eb : nI (3 ^ k - 1) / 2 = nI ((3 ^ k - 1) / 2) := pk_div (a := 3 ^ k - 1) (d := 2) (by omega) (by omega) (by omega)
      rw [ea, eb, pk_mul]
    have hm : c * ((3 ^ k - 1) / 2) ≤ 2 * ((3 ^ k - 1) / 2) := Nat.mul_le_mul_right _ (by omega)
    rw [e1, q2, nI_eq (by omega) (by omega), gd_all hc q1]
    constructor
    · intro g j hj
      rw [ht j hj, g j hj, hw]
    · intro g j hj
      have g1 := g j hj
      have hlt : code / 3 ^ (k - 1 - j) % 3 < 3 := Nat.mod_lt _ (by omega)
      rw [ht j hj, hw, nI_eq (by omega) (by omega)] at g1
      omega
theorem gf_56 {k : Nat} {p2 : Int32} (hk : k ≤ 8) (hc : c < 3) (hw : w = nI (5 + c)) (hG : gl_G 2 w a1 a2 a3) :
    wL_lawOf_56 (fun r _ => r = 1) mc ms (nI k) p2 (nI c) 1 kc ks (nI 2) (nI 0) o a1 a2 a3 t a5 a6 a7 a8 a9 := by
  have hkk : k = 0 ∨ k = 1 ∨ k = 2 ∨ k = 3 ∨ k = 4 ∨ k = 5 ∨ k = 6 ∨ k = 7 ∨ k = 8 := by omega
  rcases hkk with rfl | rfl | rfl | rfl | rfl | rfl | rfl | rfl | rfl
  · exact br_f (by decide) (br_f (by decide) (br_f (by decide) (br_f (by decide) (br_f (by decide) (br_f (by decide) (br_f (by decide) (br_f (by decide) (gf_130 (k := 0) (by omega) hc hw hG (by decide)))))))))
  · exact br_f (by decide) (br_t (by decide) (br_f (by decide) (br_f (by decide) (br_f (by decide) (br_f (by decide) (br_f (by decide) (br_f (by decide) (gf_130 (k := 1) (by omega) hc hw hG (by decide)))))))))
  · exact br_f (by decide) (br_f (by decide) (br_f (by decide) (br_t (by decide) (nm_r (e' := 9) (by decide) (br_f (by decide) (br_f (by decide) (br_f (by decide) (br_f (by decide) (gf_130 (k := 2) (by omega) hc hw hG (by decide))))))))))
  · exact br_f (by decide) (br_t (by decide) (br_f (by decide) (br_t (by decide) (nm_r (e' := 27) (by decide) (br_f (by decide) (br_f (by decide) (br_f (by decide) (br_f (by decide) (gf_130 (k := 3) (by omega) hc hw hG (by decide))))))))))
  · exact br_f (by decide) (br_f (by decide) (br_f (by decide) (br_f (by decide) (br_f (by decide) (br_t (by decide) (nm_r (e' := 81) (by decide) (br_f (by decide) (br_f (by decide) (gf_130 (k := 4) (by omega) hc hw hG (by decide))))))))))
  · exact br_f (by decide) (br_t (by decide) (br_f (by decide) (br_f (by decide) (br_f (by decide) (br_t (by decide) (nm_r (e' := 243) (by decide) (br_f (by decide) (br_f (by decide) (gf_130 (k := 5) (by omega) hc hw hG (by decide))))))))))
  · exact br_f (by decide) (br_f (by decide) (br_f (by decide) (br_t (by decide) (nm_r (e' := 9) (by decide) (br_f (by decide) (br_t (by decide) (nm_r (e' := 729) (by decide) (br_f (by decide) (br_f (by decide) (gf_130 (k := 6) (by omega) hc hw hG (by decide)))))))))))
  · exact br_f (by decide) (br_t (by decide) (br_f (by decide) (br_t (by decide) (nm_r (e' := 27) (by decide) (br_f (by decide) (br_t (by decide) (nm_r (e' := 2187) (by decide) (br_f (by decide) (br_f (by decide) (gf_130 (k := 7) (by omega) hc hw hG (by decide)))))))))))
  · exact br_f (by decide) (br_f (by decide) (br_f (by decide) (br_f (by decide) (br_f (by decide) (br_f (by decide) (br_f (by decide) (br_t (by decide) (gf_130 (k := 8) (by omega) hc hw hG (by decide)))))))))
end
theorem gf_lawOf (p0 p1 p2 : Int32) : wpL_lawOf (fun r _ => r = 1) 10 4447 () p0 p1 p2 := by
  obtain ⟨j, hj, ej⟩ := pk_andE p0 (m := 3) 2 (by decide)
  have hj4 : j < 4 := hj
  have e : (p0 &&& 3) - (p0 &&& 3) / 3 * 3 = nI (j % 3) := by
    rw [ej]
    exact pk_rem (a := j) (d := 3) (by omega) (by omega) (by omega)
  have hc : j % 3 < 3 := Nat.mod_lt _ (by omega)
  refine ⟨by omega, by omega, 9, 4435, by omega, by omega, ?_⟩
  refine ⟨by omega, by omega, by omega, by omega, by omega, by omega, by omega, by omega, by omega, by omega, by omega, by omega, by omega, by omega, by omega, by omega, by omega, by omega, ?_⟩
  refine ⟨by decide, nm_r e ?_⟩
  refine gw_rule1 (fun b1 b2 b3 h1 h2 h3 h4 => ?_)
  refine br_t rfl ?_
  refine gw_rule2 hc (fun c1 c2 c3 k1 k2 k3 k4 k5 k6 k7 => ?_)
  refine br_t rfl ?_
  have hG : gl_G 2 (nI (5 + j % 3)) c1 c2 c3 := ⟨Or.inr rfl, k1.trans h1, k6.trans h4, k3.trans h2, k4.trans h3, nI_nlt (b := 5) (by omega) (by omega), fun _ => ⟨k2, k7, k5⟩⟩
  by_cases q : p1 < 0
  · exact br_t q (gf_bad (Or.inl q) hc rfl hG)
  · refine br_f q (br_c (fun z => gf_bad (Or.inr z) hc rfl hG) (fun z => ?_))
    obtain ⟨k, hk, ek⟩ := nI_of2 (M := 8) (n := 8) (by decide) q (Int32.not_lt.mp z)
    rw [ek]
    exact gf_56 hk hc rfl hG
theorem gf_cell {post : Int32 → Prop} {L : Nat} {xs : Nat → Int32} (hL : L ≤ 3) (k : Nat) (hk : k < 3) (h : ∀ r, post r) : wpL_cellAt post L xs () (nI k) :=
  pk_le L k (fun _ => h 0) (fun z => ⟨vp_in_nI z (by omega), h _⟩)
theorem i_vc (xs : Nat → Int32) (L : Nat) (hL : L ≤ 3) : wpL_law (fun r => r = 1) L xs :=
  gf_cell hL 0 (by omega) (fun r1 => gf_cell hL 1 (by omega) (fun r2 => gf_cell hL 2 (by omega) (fun r3 => ⟨10, 4447, by omega, by omega, gf_lawOf r1 r2 r3⟩)))
end
