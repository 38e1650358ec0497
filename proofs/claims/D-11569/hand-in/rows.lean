section
/-- memory: cells of 24 bits packed in one number, ahead of them 64 bits that are only there to make memories differ early: read -/
def aq_g (m a : Nat) : Nat := Nat.mod (Nat.shiftRight m (Nat.add 64 (Nat.mul 24 a))) 16777216
/-- write, d the change -/
def aq_x (m a d : Nat) : Nat := Nat.xor (Nat.xor m (Nat.shiftLeft d (Nat.add 64 (Nat.mul 24 a)))) (Nat.mod (Nat.mul (Nat.mul d 11400714819323198485) (Nat.add a 7)) 18446744073709551616)
def aq_s (m a x : Nat) : Nat := aq_x m a (Nat.xor (aq_g m a) x)
theorem aq_g_lt (m a : Nat) : aq_g m a < 16777216 := Nat.mod_lt _ (by decide)
theorem aq_tb (m a k : Nat) : (aq_g m a).testBit k = (decide (k < 24) && m.testBit (64 + 24 * a + k)) := by
  show ((m >>> (64 + 24 * a)) % 2 ^ 24).testBit k = _
  rw [Nat.testBit_mod_two_pow, Nat.testBit_shiftRight]
theorem aq_tm {x j : Nat} (h : 64 ≤ j) : (x % 18446744073709551616).testBit j = false := by
  show (x % 2 ^ 64).testBit j = false
  rw [Nat.testBit_mod_two_pow, decide_eq_false (by omega)]
  rfl
theorem aq_ts (m a x : Nat) {j : Nat} (hj : 64 ≤ j) : (aq_s m a x).testBit j = (m.testBit j ^^ (decide (64 + 24 * a ≤ j) && ((aq_g m a).testBit (j - (64 + 24 * a)) ^^ x.testBit (j - (64 + 24 * a))))) := by
  show (m ^^^ ((aq_g m a ^^^ x) <<< (64 + 24 * a)) ^^^ (((aq_g m a ^^^ x) * 11400714819323198485 * (a + 7)) % 18446744073709551616)).testBit j = _
  rw [Nat.testBit_xor, Nat.testBit_xor, aq_tm hj, Nat.testBit_shiftLeft, Nat.testBit_xor, Bool.xor_false]
theorem aq_hi {x k : Nat} (hx : x < 16777216) (hk : 24 ≤ k) : x.testBit k = false := by
  apply Nat.testBit_lt_two_pow
  exact Nat.lt_of_lt_of_le (show x < 2 ^ 24 from hx) (Nat.pow_le_pow_right (by decide) hk)
theorem aq_gs {m a x : Nat} (hx : x < 16777216) : aq_g (aq_s m a x) a = x := by
  apply Nat.eq_of_testBit_eq
  intro k
  rw [aq_tb, aq_ts _ _ _ (by omega), Nat.add_sub_cancel_left, aq_tb, decide_eq_true (Nat.le_add_right (64 + 24 * a) k)]
  by_cases h : k < 24
  · rw [decide_eq_true h]
    cases m.testBit (64 + 24 * a + k) <;> cases x.testBit k <;> rfl
  · rw [decide_eq_false h, aq_hi hx (by omega)]
    rfl
theorem aq_gn {m a b x : Nat} (hx : x < 16777216) (hb : b ≠ a) : aq_g (aq_s m a x) b = aq_g m b := by
  apply Nat.eq_of_testBit_eq
  intro k
  rw [aq_tb, aq_tb, aq_ts _ _ _ (by omega), aq_tb]
  by_cases h : k < 24
  · rw [decide_eq_true h]
    by_cases h2 : 64 + 24 * a ≤ 64 + 24 * b + k
    · rw [decide_eq_false (show ¬ 64 + 24 * b + k - (64 + 24 * a) < 24 by omega), aq_hi hx (show 24 ≤ 64 + 24 * b + k - (64 + 24 * a) by omega)]
      cases m.testBit (64 + 24 * b + k) <;> cases decide (64 + 24 * a ≤ 64 + 24 * b + k) <;> rfl
    · rw [decide_eq_false h2]
      cases m.testBit (64 + 24 * b + k) <;> rfl
  · rw [decide_eq_false h]
    rfl
/-- a code of a cell's content: a times u and b times v and c -/
def aq_v (u v : Int32) (c : Nat) : Int32 := nI (c % 256) * u + nI (c / 256 % 256) * v + nI (c / 65536)
/-- a page in a frame: 0 for none -/
def aq_p (c : Nat) : Int32 := if c = 0 then -1 else nI (c - 1)
def aq_F (B m a : Nat) (f : Int32) : Prop := f = nI (aq_g m a) ∧ aq_g m a < B
def aq_A (d : Nat → Int32) (B m b n : Nat) (a : Nat → Int32) : Prop := ∀ i, i < n → a i = d (aq_g m (b + i)) ∧ aq_g m (b + i) < B
def aq_L (d : Nat → Int32) (B l k : Nat) (a : Nat → Int32) : Prop := ∀ i, i < 64 → a i = d (aq_g l (8 * i + k)) ∧ aq_g l (8 * i + k) < B
theorem aq_Fn {B m a c x : Nat} {f : Int32} (h : aq_F B m a f) (hx : x < 16777216) (hc : a ≠ c) : aq_F B (aq_s m c x) a f := by
  unfold aq_F
  rw [aq_gn hx hc]
  exact h
theorem aq_Fs {B m a x : Nat} {f : Int32} (hx : x < 16777216) (hB : x < B) (hf : f = nI x) : aq_F B (aq_s m a x) a f := by
  unfold aq_F
  rw [aq_gs hx]
  exact ⟨hf, hB⟩
theorem aq_An {d : Nat → Int32} {B m b n c x : Nat} {a : Nat → Int32} (h : aq_A d B m b n a) (hx : x < 16777216) (hc : c < b ∨ b + n ≤ c) : aq_A d B (aq_s m c x) b n a := by
  intro i hi
  rw [aq_gn hx (by omega)]
  exact h i hi
theorem aq_As {d : Nat → Int32} {B m b n i j x : Nat} {y : Int32} {a : Nat → Int32} (h : aq_A d B m b n a) (hx : x < 16777216) (hB : x < B) (hj : j = i) (hy : y = d x) : aq_A d B (aq_s m (b + i) x) b n (upd a j y) := by
  subst hj hy
  intro k hk
  by_cases e : k = j
  · subst e
    rw [aq_gs hx, pk_us]
    exact ⟨rfl, hB⟩
  · rw [aq_gn hx (by omega), pk_un e]
    exact h k hk
theorem aq_Ln {d : Nat → Int32} {B l k c q x : Nat} {a : Nat → Int32} (h : aq_L d B l k a) (hx : x < 16777216) (hk : k < 8) (hc : c < 8) (hn : k ≠ c) : aq_L d B (aq_s l (8 * q + c) x) k a := by
  intro i hi
  rw [aq_gn hx (by omega)]
  exact h i hi
theorem aq_Ls {d : Nat → Int32} {B l k q j x : Nat} {y : Int32} {a : Nat → Int32} (h : aq_L d B l k a) (hx : x < 16777216) (hB : x < B) (hj : j = q) (hy : y = d x) : aq_L d B (aq_s l (8 * q + k) x) k (upd a j y) := by
  subst hj hy
  intro i hi
  by_cases e : i = j
  · subst e
    rw [aq_gs hx, pk_us]
    exact ⟨rfl, hB⟩
  · rw [aq_gn hx (by omega), pk_un e]
    exact h i hi
/-- the abstract machine (m, l) and a printed state -/
def aq_R (u v : Int32) (fc m l : Nat) (U : St2) : Prop := match U with
  | (f1, f2, f3, f4, f5, f6, a1, a2, a3, a4, a5, a6, a7, a8, a9, a10, a11, a12, a13, a14, a15, a16, a17, a18, a19, a20) => aq_F 64 m 0 f1 ∧ aq_F 64 m 1 f2 ∧ aq_F 64 m 2 f3 ∧ (f4 = nI fc ∧ fc ≤ 3) ∧ aq_F 3 m 3 f5 ∧ aq_F 16777216 m 4 f6 ∧ aq_A (aq_v u v) 16777216 m 8 16 a1 ∧ aq_A nI 64 m 24 4 a2 ∧ aq_A nI 64 m 28 3 a3 ∧ aq_A nI 64 m 32 4 a4 ∧ aq_L nI 4 l 0 a5 ∧ aq_L nI 3 l 1 a6 ∧ aq_L nI 16 l 2 a7 ∧ aq_L (aq_v u v) 16777216 l 3 a8 ∧ aq_L (aq_v u v) 16777216 l 4 a9 ∧ aq_L nI 64 l 5 a10 ∧ aq_A aq_p 5 m 36 3 a12 ∧ aq_A (aq_v u v) 16777216 m 40 12 a13 ∧ aq_A nI 64 m 52 3 a14 ∧ aq_A nI 64 m 56 3 a15 ∧ aq_A nI 2 m 60 3 a16 ∧ aq_A nI 65536 m 64 3 a17 ∧ aq_A nI 32 m 68 3 a18 ∧ aq_A nI 64 m 72 3 a19 ∧ aq_A nI 64 m 76 3 a20
theorem aq_r_f1 {u v : Int32} {fc m l : Nat} {f1 f2 f3 f4 f5 f6 : Int32} {a1 a2 a3 a4 a5 a6 a7 a8 a9 a10 a11 a12 a13 a14 a15 a16 a17 a18 a19 a20 : Nat → Int32} (h : aq_R u v fc m l (f1, f2, f3, f4, f5, f6, a1, a2, a3, a4, a5, a6, a7, a8, a9, a10, a11, a12, a13, a14, a15, a16, a17, a18, a19, a20)) : f1 = nI (aq_g m 0) ∧ aq_g m 0 < 64 := h.1
theorem aq_r_f2 {u v : Int32} {fc m l : Nat} {f1 f2 f3 f4 f5 f6 : Int32} {a1 a2 a3 a4 a5 a6 a7 a8 a9 a10 a11 a12 a13 a14 a15 a16 a17 a18 a19 a20 : Nat → Int32} (h : aq_R u v fc m l (f1, f2, f3, f4, f5, f6, a1, a2, a3, a4, a5, a6, a7, a8, a9, a10, a11, a12, a13, a14, a15, a16, a17, a18, a19, a20)) : f2 = nI (aq_g m 1) ∧ aq_g m 1 < 64 := h.2.1
theorem aq_r_f3 {u v : Int32} {fc m l : Nat} {f1 f2 f3 f4 f5 f6 : Int32} {a1 a2 a3 a4 a5 a6 a7 a8 a9 a10 a11 a12 a13 a14 a15 a16 a17 a18 a19 a20 : Nat → Int32} (h : aq_R u v fc m l (f1, f2, f3, f4, f5, f6, a1, a2, a3, a4, a5, a6, a7, a8, a9, a10, a11, a12, a13, a14, a15, a16, a17, a18, a19, a20)) : f3 = nI (aq_g m 2) ∧ aq_g m 2 < 64 := h.2.2.1
theorem aq_r_f4 {u v : Int32} {fc m l : Nat} {f1 f2 f3 f4 f5 f6 : Int32} {a1 a2 a3 a4 a5 a6 a7 a8 a9 a10 a11 a12 a13 a14 a15 a16 a17 a18 a19 a20 : Nat → Int32} (h : aq_R u v fc m l (f1, f2, f3, f4, f5, f6, a1, a2, a3, a4, a5, a6, a7, a8, a9, a10, a11, a12, a13, a14, a15, a16, a17, a18, a19, a20)) : (f4 = nI fc ∧ fc ≤ 3) := h.2.2.2.1
theorem aq_r_f5 {u v : Int32} {fc m l : Nat} {f1 f2 f3 f4 f5 f6 : Int32} {a1 a2 a3 a4 a5 a6 a7 a8 a9 a10 a11 a12 a13 a14 a15 a16 a17 a18 a19 a20 : Nat → Int32} (h : aq_R u v fc m l (f1, f2, f3, f4, f5, f6, a1, a2, a3, a4, a5, a6, a7, a8, a9, a10, a11, a12, a13, a14, a15, a16, a17, a18, a19, a20)) : f5 = nI (aq_g m 3) ∧ aq_g m 3 < 3 := h.2.2.2.2.1
theorem aq_r_f6 {u v : Int32} {fc m l : Nat} {f1 f2 f3 f4 f5 f6 : Int32} {a1 a2 a3 a4 a5 a6 a7 a8 a9 a10 a11 a12 a13 a14 a15 a16 a17 a18 a19 a20 : Nat → Int32} (h : aq_R u v fc m l (f1, f2, f3, f4, f5, f6, a1, a2, a3, a4, a5, a6, a7, a8, a9, a10, a11, a12, a13, a14, a15, a16, a17, a18, a19, a20)) : f6 = nI (aq_g m 4) ∧ aq_g m 4 < 16777216 := h.2.2.2.2.2.1
theorem aq_r_a1 {u v : Int32} {fc m l : Nat} {f1 f2 f3 f4 f5 f6 : Int32} {a1 a2 a3 a4 a5 a6 a7 a8 a9 a10 a11 a12 a13 a14 a15 a16 a17 a18 a19 a20 : Nat → Int32} (h : aq_R u v fc m l (f1, f2, f3, f4, f5, f6, a1, a2, a3, a4, a5, a6, a7, a8, a9, a10, a11, a12, a13, a14, a15, a16, a17, a18, a19, a20)) : aq_A (aq_v u v) 16777216 m 8 16 a1 := h.2.2.2.2.2.2.1
theorem aq_r_a2 {u v : Int32} {fc m l : Nat} {f1 f2 f3 f4 f5 f6 : Int32} {a1 a2 a3 a4 a5 a6 a7 a8 a9 a10 a11 a12 a13 a14 a15 a16 a17 a18 a19 a20 : Nat → Int32} (h : aq_R u v fc m l (f1, f2, f3, f4, f5, f6, a1, a2, a3, a4, a5, a6, a7, a8, a9, a10, a11, a12, a13, a14, a15, a16, a17, a18, a19, a20)) : aq_A nI 64 m 24 4 a2 := h.2.2.2.2.2.2.2.1
theorem aq_r_a3 {u v : Int32} {fc m l : Nat} {f1 f2 f3 f4 f5 f6 : Int32} {a1 a2 a3 a4 a5 a6 a7 a8 a9 a10 a11 a12 a13 a14 a15 a16 a17 a18 a19 a20 : Nat → Int32} (h : aq_R u v fc m l (f1, f2, f3, f4, f5, f6, a1, a2, a3, a4, a5, a6, a7, a8, a9, a10, a11, a12, a13, a14, a15, a16, a17, a18, a19, a20)) : aq_A nI 64 m 28 3 a3 := h.2.2.2.2.2.2.2.2.1
theorem aq_r_a4 {u v : Int32} {fc m l : Nat} {f1 f2 f3 f4 f5 f6 : Int32} {a1 a2 a3 a4 a5 a6 a7 a8 a9 a10 a11 a12 a13 a14 a15 a16 a17 a18 a19 a20 : Nat → Int32} (h : aq_R u v fc m l (f1, f2, f3, f4, f5, f6, a1, a2, a3, a4, a5, a6, a7, a8, a9, a10, a11, a12, a13, a14, a15, a16, a17, a18, a19, a20)) : aq_A nI 64 m 32 4 a4 := h.2.2.2.2.2.2.2.2.2.1
theorem aq_r_a5 {u v : Int32} {fc m l : Nat} {f1 f2 f3 f4 f5 f6 : Int32} {a1 a2 a3 a4 a5 a6 a7 a8 a9 a10 a11 a12 a13 a14 a15 a16 a17 a18 a19 a20 : Nat → Int32} (h : aq_R u v fc m l (f1, f2, f3, f4, f5, f6, a1, a2, a3, a4, a5, a6, a7, a8, a9, a10, a11, a12, a13, a14, a15, a16, a17, a18, a19, a20)) : aq_L nI 4 l 0 a5 := h.2.2.2.2.2.2.2.2.2.2.1
theorem aq_r_a6 {u v : Int32} {fc m l : Nat} {f1 f2 f3 f4 f5 f6 : Int32} {a1 a2 a3 a4 a5 a6 a7 a8 a9 a10 a11 a12 a13 a14 a15 a16 a17 a18 a19 a20 : Nat → Int32} (h : aq_R u v fc m l (f1, f2, f3, f4, f5, f6, a1, a2, a3, a4, a5, a6, a7, a8, a9, a10, a11, a12, a13, a14, a15, a16, a17, a18, a19, a20)) : aq_L nI 3 l 1 a6 := h.2.2.2.2.2.2.2.2.2.2.2.1
theorem aq_r_a7 {u v : Int32} {fc m l : Nat} {f1 f2 f3 f4 f5 f6 : Int32} {a1 a2 a3 a4 a5 a6 a7 a8 a9 a10 a11 a12 a13 a14 a15 a16 a17 a18 a19 a20 : Nat → Int32} (h : aq_R u v fc m l (f1, f2, f3, f4, f5, f6, a1, a2, a3, a4, a5, a6, a7, a8, a9, a10, a11, a12, a13, a14, a15, a16, a17, a18, a19, a20)) : aq_L nI 16 l 2 a7 := h.2.2.2.2.2.2.2.2.2.2.2.2.1
theorem aq_r_a8 {u v : Int32} {fc m l : Nat} {f1 f2 f3 f4 f5 f6 : Int32} {a1 a2 a3 a4 a5 a6 a7 a8 a9 a10 a11 a12 a13 a14 a15 a16 a17 a18 a19 a20 : Nat → Int32} (h : aq_R u v fc m l (f1, f2, f3, f4, f5, f6, a1, a2, a3, a4, a5, a6, a7, a8, a9, a10, a11, a12, a13, a14, a15, a16, a17, a18, a19, a20)) : aq_L (aq_v u v) 16777216 l 3 a8 := h.2.2.2.2.2.2.2.2.2.2.2.2.2.1
theorem aq_r_a9 {u v : Int32} {fc m l : Nat} {f1 f2 f3 f4 f5 f6 : Int32} {a1 a2 a3 a4 a5 a6 a7 a8 a9 a10 a11 a12 a13 a14 a15 a16 a17 a18 a19 a20 : Nat → Int32} (h : aq_R u v fc m l (f1, f2, f3, f4, f5, f6, a1, a2, a3, a4, a5, a6, a7, a8, a9, a10, a11, a12, a13, a14, a15, a16, a17, a18, a19, a20)) : aq_L (aq_v u v) 16777216 l 4 a9 := h.2.2.2.2.2.2.2.2.2.2.2.2.2.2.1
theorem aq_r_a10 {u v : Int32} {fc m l : Nat} {f1 f2 f3 f4 f5 f6 : Int32} {a1 a2 a3 a4 a5 a6 a7 a8 a9 a10 a11 a12 a13 a14 a15 a16 a17 a18 a19 a20 : Nat → Int32} (h : aq_R u v fc m l (f1, f2, f3, f4, f5, f6, a1, a2, a3, a4, a5, a6, a7, a8, a9, a10, a11, a12, a13, a14, a15, a16, a17, a18, a19, a20)) : aq_L nI 64 l 5 a10 := h.2.2.2.2.2.2.2.2.2.2.2.2.2.2.2.1
theorem aq_r_a12 {u v : Int32} {fc m l : Nat} {f1 f2 f3 f4 f5 f6 : Int32} {a1 a2 a3 a4 a5 a6 a7 a8 a9 a10 a11 a12 a13 a14 a15 a16 a17 a18 a19 a20 : Nat → Int32} (h : aq_R u v fc m l (f1, f2, f3, f4, f5, f6, a1, a2, a3, a4, a5, a6, a7, a8, a9, a10, a11, a12, a13, a14, a15, a16, a17, a18, a19, a20)) : aq_A aq_p 5 m 36 3 a12 := h.2.2.2.2.2.2.2.2.2.2.2.2.2.2.2.2.1
theorem aq_r_a13 {u v : Int32} {fc m l : Nat} {f1 f2 f3 f4 f5 f6 : Int32} {a1 a2 a3 a4 a5 a6 a7 a8 a9 a10 a11 a12 a13 a14 a15 a16 a17 a18 a19 a20 : Nat → Int32} (h : aq_R u v fc m l (f1, f2, f3, f4, f5, f6, a1, a2, a3, a4, a5, a6, a7, a8, a9, a10, a11, a12, a13, a14, a15, a16, a17, a18, a19, a20)) : aq_A (aq_v u v) 16777216 m 40 12 a13 := h.2.2.2.2.2.2.2.2.2.2.2.2.2.2.2.2.2.1
theorem aq_r_a14 {u v : Int32} {fc m l : Nat} {f1 f2 f3 f4 f5 f6 : Int32} {a1 a2 a3 a4 a5 a6 a7 a8 a9 a10 a11 a12 a13 a14 a15 a16 a17 a18 a19 a20 : Nat → Int32} (h : aq_R u v fc m l (f1, f2, f3, f4, f5, f6, a1, a2, a3, a4, a5, a6, a7, a8, a9, a10, a11, a12, a13, a14, a15, a16, a17, a18, a19, a20)) : aq_A nI 64 m 52 3 a14 := h.2.2.2.2.2.2.2.2.2.2.2.2.2.2.2.2.2.2.1
theorem aq_r_a15 {u v : Int32} {fc m l : Nat} {f1 f2 f3 f4 f5 f6 : Int32} {a1 a2 a3 a4 a5 a6 a7 a8 a9 a10 a11 a12 a13 a14 a15 a16 a17 a18 a19 a20 : Nat → Int32} (h : aq_R u v fc m l (f1, f2, f3, f4, f5, f6, a1, a2, a3, a4, a5, a6, a7, a8, a9, a10, a11, a12, a13, a14, a15, a16, a17, a18, a19, a20)) : aq_A nI 64 m 56 3 a15 := h.2.2.2.2.2.2.2.2.2.2.2.2.2.2.2.2.2.2.2.1
theorem aq_r_a16 {u v : Int32} {fc m l : Nat} {f1 f2 f3 f4 f5 f6 : Int32} {a1 a2 a3 a4 a5 a6 a7 a8 a9 a10 a11 a12 a13 a14 a15 a16 a17 a18 a19 a20 : Nat → Int32} (h : aq_R u v fc m l (f1, f2, f3, f4, f5, f6, a1, a2, a3, a4, a5, a6, a7, a8, a9, a10, a11, a12, a13, a14, a15, a16, a17, a18, a19, a20)) : aq_A nI 2 m 60 3 a16 := h.2.2.2.2.2.2.2.2.2.2.2.2.2.2.2.2.2.2.2.2.1
theorem aq_r_a17 {u v : Int32} {fc m l : Nat} {f1 f2 f3 f4 f5 f6 : Int32} {a1 a2 a3 a4 a5 a6 a7 a8 a9 a10 a11 a12 a13 a14 a15 a16 a17 a18 a19 a20 : Nat → Int32} (h : aq_R u v fc m l (f1, f2, f3, f4, f5, f6, a1, a2, a3, a4, a5, a6, a7, a8, a9, a10, a11, a12, a13, a14, a15, a16, a17, a18, a19, a20)) : aq_A nI 65536 m 64 3 a17 := h.2.2.2.2.2.2.2.2.2.2.2.2.2.2.2.2.2.2.2.2.2.1
theorem aq_r_a18 {u v : Int32} {fc m l : Nat} {f1 f2 f3 f4 f5 f6 : Int32} {a1 a2 a3 a4 a5 a6 a7 a8 a9 a10 a11 a12 a13 a14 a15 a16 a17 a18 a19 a20 : Nat → Int32} (h : aq_R u v fc m l (f1, f2, f3, f4, f5, f6, a1, a2, a3, a4, a5, a6, a7, a8, a9, a10, a11, a12, a13, a14, a15, a16, a17, a18, a19, a20)) : aq_A nI 32 m 68 3 a18 := h.2.2.2.2.2.2.2.2.2.2.2.2.2.2.2.2.2.2.2.2.2.2.1
theorem aq_r_a19 {u v : Int32} {fc m l : Nat} {f1 f2 f3 f4 f5 f6 : Int32} {a1 a2 a3 a4 a5 a6 a7 a8 a9 a10 a11 a12 a13 a14 a15 a16 a17 a18 a19 a20 : Nat → Int32} (h : aq_R u v fc m l (f1, f2, f3, f4, f5, f6, a1, a2, a3, a4, a5, a6, a7, a8, a9, a10, a11, a12, a13, a14, a15, a16, a17, a18, a19, a20)) : aq_A nI 64 m 72 3 a19 := h.2.2.2.2.2.2.2.2.2.2.2.2.2.2.2.2.2.2.2.2.2.2.2.1
theorem aq_r_a20 {u v : Int32} {fc m l : Nat} {f1 f2 f3 f4 f5 f6 : Int32} {a1 a2 a3 a4 a5 a6 a7 a8 a9 a10 a11 a12 a13 a14 a15 a16 a17 a18 a19 a20 : Nat → Int32} (h : aq_R u v fc m l (f1, f2, f3, f4, f5, f6, a1, a2, a3, a4, a5, a6, a7, a8, a9, a10, a11, a12, a13, a14, a15, a16, a17, a18, a19, a20)) : aq_A nI 64 m 76 3 a20 := h.2.2.2.2.2.2.2.2.2.2.2.2.2.2.2.2.2.2.2.2.2.2.2.2
theorem aq_w_f1 {u v : Int32} {fc m l : Nat} {f1 f2 f3 f4 f5 f6 : Int32} {a1 a2 a3 a4 a5 a6 a7 a8 a9 a10 a11 a12 a13 a14 a15 a16 a17 a18 a19 a20 : Nat → Int32} {x : Nat} {y : Int32} (h : aq_R u v fc m l (f1, f2, f3, f4, f5, f6, a1, a2, a3, a4, a5, a6, a7, a8, a9, a10, a11, a12, a13, a14, a15, a16, a17, a18, a19, a20)) (hB : x < 64) (hy : y = nI x) : aq_R u v fc (aq_s m 0 x) l (y, f2, f3, f4, f5, f6, a1, a2, a3, a4, a5, a6, a7, a8, a9, a10, a11, a12, a13, a14, a15, a16, a17, a18, a19, a20) :=
  ⟨aq_Fs (by omega) hB hy, aq_Fn (aq_r_f2 h) (by omega) (by omega), aq_Fn (aq_r_f3 h) (by omega) (by omega), aq_r_f4 h, aq_Fn (aq_r_f5 h) (by omega) (by omega), aq_Fn (aq_r_f6 h) (by omega) (by omega), aq_An (aq_r_a1 h) (by omega) (by omega), aq_An (aq_r_a2 h) (by omega) (by omega), aq_An (aq_r_a3 h) (by omega) (by omega), aq_An (aq_r_a4 h) (by omega) (by omega), aq_r_a5 h, aq_r_a6 h, aq_r_a7 h, aq_r_a8 h, aq_r_a9 h, aq_r_a10 h, aq_An (aq_r_a12 h) (by omega) (by omega), aq_An (aq_r_a13 h) (by omega) (by omega), aq_An (aq_r_a14 h) (by omega) (by omega), aq_An (aq_r_a15 h) (by omega) (by omega), aq_An (aq_r_a16 h) (by omega) (by omega), aq_An (aq_r_a17 h) (by omega) (by omega), aq_An (aq_r_a18 h) (by omega) (by omega), aq_An (aq_r_a19 h) (by omega) (by omega), aq_An (aq_r_a20 h) (by omega) (by omega)⟩
theorem aq_w_f2 {u v : Int32} {fc m l : Nat} {f1 f2 f3 f4 f5 f6 : Int32} {a1 a2 a3 a4 a5 a6 a7 a8 a9 a10 a11 a12 a13 a14 a15 a16 a17 a18 a19 a20 : Nat → Int32} {x : Nat} {y : Int32} (h : aq_R u v fc m l (f1, f2, f3, f4, f5, f6, a1, a2, a3, a4, a5, a6, a7, a8, a9, a10, a11, a12, a13, a14, a15, a16, a17, a18, a19, a20)) (hB : x < 64) (hy : y = nI x) : aq_R u v fc (aq_s m 1 x) l (f1, y, f3, f4, f5, f6, a1, a2, a3, a4, a5, a6, a7, a8, a9, a10, a11, a12, a13, a14, a15, a16, a17, a18, a19, a20) :=
  ⟨aq_Fn (aq_r_f1 h) (by omega) (by omega), aq_Fs (by omega) hB hy, aq_Fn (aq_r_f3 h) (by omega) (by omega), aq_r_f4 h, aq_Fn (aq_r_f5 h) (by omega) (by omega), aq_Fn (aq_r_f6 h) (by omega) (by omega), aq_An (aq_r_a1 h) (by omega) (by omega), aq_An (aq_r_a2 h) (by omega) (by omega), aq_An (aq_r_a3 h) (by omega) (by omega), aq_An (aq_r_a4 h) (by omega) (by omega), aq_r_a5 h, aq_r_a6 h, aq_r_a7 h, aq_r_a8 h, aq_r_a9 h, aq_r_a10 h, aq_An (aq_r_a12 h) (by omega) (by omega), aq_An (aq_r_a13 h) (by omega) (by omega), aq_An (aq_r_a14 h) (by omega) (by omega), aq_An (aq_r_a15 h) (by omega) (by omega), aq_An (aq_r_a16 h) (by omega) (by omega), aq_An (aq_r_a17 h) (by omega) (by omega), aq_An (aq_r_a18 h) (by omega) (by omega), aq_An (aq_r_a19 h) (by omega) (by omega), aq_An (aq_r_a20 h) (by omega) (by omega)⟩
theorem aq_w_f3 {u v : Int32} {fc m l : Nat} {f1 f2 f3 f4 f5 f6 : Int32} {a1 a2 a3 a4 a5 a6 a7 a8 a9 a10 a11 a12 a13 a14 a15 a16 a17 a18 a19 a20 : Nat → Int32} {x : Nat} {y : Int32} (h : aq_R u v fc m l (f1, f2, f3, f4, f5, f6, a1, a2, a3, a4, a5, a6, a7, a8, a9, a10, a11, a12, a13, a14, a15, a16, a17, a18, a19, a20)) (hB : x < 64) (hy : y = nI x) : aq_R u v fc (aq_s m 2 x) l (f1, f2, y, f4, f5, f6, a1, a2, a3, a4, a5, a6, a7, a8, a9, a10, a11, a12, a13, a14, a15, a16, a17, a18, a19, a20) :=
  ⟨aq_Fn (aq_r_f1 h) (by omega) (by omega), aq_Fn (aq_r_f2 h) (by omega) (by omega), aq_Fs (by omega) hB hy, aq_r_f4 h, aq_Fn (aq_r_f5 h) (by omega) (by omega), aq_Fn (aq_r_f6 h) (by omega) (by omega), aq_An (aq_r_a1 h) (by omega) (by omega), aq_An (aq_r_a2 h) (by omega) (by omega), aq_An (aq_r_a3 h) (by omega) (by omega), aq_An (aq_r_a4 h) (by omega) (by omega), aq_r_a5 h, aq_r_a6 h, aq_r_a7 h, aq_r_a8 h, aq_r_a9 h, aq_r_a10 h, aq_An (aq_r_a12 h) (by omega) (by omega), aq_An (aq_r_a13 h) (by omega) (by omega), aq_An (aq_r_a14 h) (by omega) (by omega), aq_An (aq_r_a15 h) (by omega) (by omega), aq_An (aq_r_a16 h) (by omega) (by omega), aq_An (aq_r_a17 h) (by omega) (by omega), aq_An (aq_r_a18 h) (by omega) (by omega), aq_An (aq_r_a19 h) (by omega) (by omega), aq_An (aq_r_a20 h) (by omega) (by omega)⟩
theorem aq_w_f5 {u v : Int32} {fc m l : Nat} {f1 f2 f3 f4 f5 f6 : Int32} {a1 a2 a3 a4 a5 a6 a7 a8 a9 a10 a11 a12 a13 a14 a15 a16 a17 a18 a19 a20 : Nat → Int32} {x : Nat} {y : Int32} (h : aq_R u v fc m l (f1, f2, f3, f4, f5, f6, a1, a2, a3, a4, a5, a6, a7, a8, a9, a10, a11, a12, a13, a14, a15, a16, a17, a18, a19, a20)) (hB : x < 3) (hy : y = nI x) : aq_R u v fc (aq_s m 3 x) l (f1, f2, f3, f4, y, f6, a1, a2, a3, a4, a5, a6, a7, a8, a9, a10, a11, a12, a13, a14, a15, a16, a17, a18, a19, a20) :=
  ⟨aq_Fn (aq_r_f1 h) (by omega) (by omega), aq_Fn (aq_r_f2 h) (by omega) (by omega), aq_Fn (aq_r_f3 h) (by omega) (by omega), aq_r_f4 h, aq_Fs (by omega) hB hy, aq_Fn (aq_r_f6 h) (by omega) (by omega), aq_An (aq_r_a1 h) (by omega) (by omega), aq_An (aq_r_a2 h) (by omega) (by omega), aq_An (aq_r_a3 h) (by omega) (by omega), aq_An (aq_r_a4 h) (by omega) (by omega), aq_r_a5 h, aq_r_a6 h, aq_r_a7 h, aq_r_a8 h, aq_r_a9 h, aq_r_a10 h, aq_An (aq_r_a12 h) (by omega) (by omega), aq_An (aq_r_a13 h) (by omega) (by omega), aq_An (aq_r_a14 h) (by omega) (by omega), aq_An (aq_r_a15 h) (by omega) (by omega), aq_An (aq_r_a16 h) (by omega) (by omega), aq_An (aq_r_a17 h) (by omega) (by omega), aq_An (aq_r_a18 h) (by omega) (by omega), aq_An (aq_r_a19 h) (by omega) (by omega), aq_An (aq_r_a20 h) (by omega) (by omega)⟩
theorem aq_w_f6 {u v : Int32} {fc m l : Nat} {f1 f2 f3 f4 f5 f6 : Int32} {a1 a2 a3 a4 a5 a6 a7 a8 a9 a10 a11 a12 a13 a14 a15 a16 a17 a18 a19 a20 : Nat → Int32} {x : Nat} {y : Int32} (h : aq_R u v fc m l (f1, f2, f3, f4, f5, f6, a1, a2, a3, a4, a5, a6, a7, a8, a9, a10, a11, a12, a13, a14, a15, a16, a17, a18, a19, a20)) (hB : x < 16777216) (hy : y = nI x) : aq_R u v fc (aq_s m 4 x) l (f1, f2, f3, f4, f5, y, a1, a2, a3, a4, a5, a6, a7, a8, a9, a10, a11, a12, a13, a14, a15, a16, a17, a18, a19, a20) :=
  ⟨aq_Fn (aq_r_f1 h) (by omega) (by omega), aq_Fn (aq_r_f2 h) (by omega) (by omega), aq_Fn (aq_r_f3 h) (by omega) (by omega), aq_r_f4 h, aq_Fn (aq_r_f5 h) (by omega) (by omega), aq_Fs (by omega) hB hy, aq_An (aq_r_a1 h) (by omega) (by omega), aq_An (aq_r_a2 h) (by omega) (by omega), aq_An (aq_r_a3 h) (by omega) (by omega), aq_An (aq_r_a4 h) (by omega) (by omega), aq_r_a5 h, aq_r_a6 h, aq_r_a7 h, aq_r_a8 h, aq_r_a9 h, aq_r_a10 h, aq_An (aq_r_a12 h) (by omega) (by omega), aq_An (aq_r_a13 h) (by omega) (by omega), aq_An (aq_r_a14 h) (by omega) (by omega), aq_An (aq_r_a15 h) (by omega) (by omega), aq_An (aq_r_a16 h) (by omega) (by omega), aq_An (aq_r_a17 h) (by omega) (by omega), aq_An (aq_r_a18 h) (by omega) (by omega), aq_An (aq_r_a19 h) (by omega) (by omega), aq_An (aq_r_a20 h) (by omega) (by omega)⟩
theorem aq_w_a1 {u v : Int32} {fc m l : Nat} {f1 f2 f3 f4 f5 f6 : Int32} {a1 a2 a3 a4 a5 a6 a7 a8 a9 a10 a11 a12 a13 a14 a15 a16 a17 a18 a19 a20 : Nat → Int32} {i j x : Nat} {y : Int32} (h : aq_R u v fc m l (f1, f2, f3, f4, f5, f6, a1, a2, a3, a4, a5, a6, a7, a8, a9, a10, a11, a12, a13, a14, a15, a16, a17, a18, a19, a20)) (hi : i < 16) (hB : x < 16777216) (hj : j = i) (hy : y = (aq_v u v) x) : aq_R u v fc (aq_s m (8 + i) x) l (f1, f2, f3, f4, f5, f6, upd a1 j y, a2, a3, a4, a5, a6, a7, a8, a9, a10, a11, a12, a13, a14, a15, a16, a17, a18, a19, a20) :=
  ⟨aq_Fn (aq_r_f1 h) (by omega) (by omega), aq_Fn (aq_r_f2 h) (by omega) (by omega), aq_Fn (aq_r_f3 h) (by omega) (by omega), aq_r_f4 h, aq_Fn (aq_r_f5 h) (by omega) (by omega), aq_Fn (aq_r_f6 h) (by omega) (by omega), aq_As (aq_r_a1 h) (by omega) hB hj hy, aq_An (aq_r_a2 h) (by omega) (by omega), aq_An (aq_r_a3 h) (by omega) (by omega), aq_An (aq_r_a4 h) (by omega) (by omega), aq_r_a5 h, aq_r_a6 h, aq_r_a7 h, aq_r_a8 h, aq_r_a9 h, aq_r_a10 h, aq_An (aq_r_a12 h) (by omega) (by omega), aq_An (aq_r_a13 h) (by omega) (by omega), aq_An (aq_r_a14 h) (by omega) (by omega), aq_An (aq_r_a15 h) (by omega) (by omega), aq_An (aq_r_a16 h) (by omega) (by omega), aq_An (aq_r_a17 h) (by omega) (by omega), aq_An (aq_r_a18 h) (by omega) (by omega), aq_An (aq_r_a19 h) (by omega) (by omega), aq_An (aq_r_a20 h) (by omega) (by omega)⟩
theorem aq_w_a2 {u v : Int32} {fc m l : Nat} {f1 f2 f3 f4 f5 f6 : Int32} {a1 a2 a3 a4 a5 a6 a7 a8 a9 a10 a11 a12 a13 a14 a15 a16 a17 a18 a19 a20 : Nat → Int32} {i j x : Nat} {y : Int32} (h : aq_R u v fc m l (f1, f2, f3, f4, f5, f6, a1, a2, a3, a4, a5, a6, a7, a8, a9, a10, a11, a12, a13, a14, a15, a16, a17, a18, a19, a20)) (hi : i < 4) (hB : x < 64) (hj : j = i) (hy : y = nI x) : aq_R u v fc (aq_s m (24 + i) x) l (f1, f2, f3, f4, f5, f6, a1, upd a2 j y, a3, a4, a5, a6, a7, a8, a9, a10, a11, a12, a13, a14, a15, a16, a17, a18, a19, a20) :=
  ⟨aq_Fn (aq_r_f1 h) (by omega) (by omega), aq_Fn (aq_r_f2 h) (by omega) (by omega), aq_Fn (aq_r_f3 h) (by omega) (by omega), aq_r_f4 h, aq_Fn (aq_r_f5 h) (by omega) (by omega), aq_Fn (aq_r_f6 h) (by omega) (by omega), aq_An (aq_r_a1 h) (by omega) (by omega), aq_As (aq_r_a2 h) (by omega) hB hj hy, aq_An (aq_r_a3 h) (by omega) (by omega), aq_An (aq_r_a4 h) (by omega) (by omega), aq_r_a5 h, aq_r_a6 h, aq_r_a7 h, aq_r_a8 h, aq_r_a9 h, aq_r_a10 h, aq_An (aq_r_a12 h) (by omega) (by omega), aq_An (aq_r_a13 h) (by omega) (by omega), aq_An (aq_r_a14 h) (by omega) (by omega), aq_An (aq_r_a15 h) (by omega) (by omega), aq_An (aq_r_a16 h) (by omega) (by omega), aq_An (aq_r_a17 h) (by omega) (by omega), aq_An (aq_r_a18 h) (by omega) (by omega), aq_An (aq_r_a19 h) (by omega) (by omega), aq_An (aq_r_a20 h) (by omega) (by omega)⟩
theorem aq_w_a3 {u v : Int32} {fc m l : Nat} {f1 f2 f3 f4 f5 f6 : Int32} {a1 a2 a3 a4 a5 a6 a7 a8 a9 a10 a11 a12 a13 a14 a15 a16 a17 a18 a19 a20 : Nat → Int32} {i j x : Nat} {y : Int32} (h : aq_R u v fc m l (f1, f2, f3, f4, f5, f6, a1, a2, a3, a4, a5, a6, a7, a8, a9, a10, a11, a12, a13, a14, a15, a16, a17, a18, a19, a20)) (hi : i < 3) (hB : x < 64) (hj : j = i) (hy : y = nI x) : aq_R u v fc (aq_s m (28 + i) x) l (f1, f2, f3, f4, f5, f6, a1, a2, upd a3 j y, a4, a5, a6, a7, a8, a9, a10, a11, a12, a13, a14, a15, a16, a17, a18, a19, a20) :=
  ⟨aq_Fn (aq_r_f1 h) (by omega) (by omega), aq_Fn (aq_r_f2 h) (by omega) (by omega), aq_Fn (aq_r_f3 h) (by omega) (by omega), aq_r_f4 h, aq_Fn (aq_r_f5 h) (by omega) (by omega), aq_Fn (aq_r_f6 h) (by omega) (by omega), aq_An (aq_r_a1 h) (by omega) (by omega), aq_An (aq_r_a2 h) (by omega) (by omega), aq_As (aq_r_a3 h) (by omega) hB hj hy, aq_An (aq_r_a4 h) (by omega) (by omega), aq_r_a5 h, aq_r_a6 h, aq_r_a7 h, aq_r_a8 h, aq_r_a9 h, aq_r_a10 h, aq_An (aq_r_a12 h) (by omega) (by omega), aq_An (aq_r_a13 h) (by omega) (by omega), aq_An (aq_r_a14 h) (by omega) (by omega), aq_An (aq_r_a15 h) (by omega) (by omega), aq_An (aq_r_a16 h) (by omega) (by omega), aq_An (aq_r_a17 h) (by omega) (by omega), aq_An (aq_r_a18 h) (by omega) (by omega), aq_An (aq_r_a19 h) (by omega) (by omega), aq_An (aq_r_a20 h) (by omega) (by omega)⟩
theorem aq_w_a4 {u v : Int32} {fc m l : Nat} {f1 f2 f3 f4 f5 f6 : Int32} {a1 a2 a3 a4 a5 a6 a7 a8 a9 a10 a11 a12 a13 a14 a15 a16 a17 a18 a19 a20 : Nat → Int32} {i j x : Nat} {y : Int32} (h : aq_R u v fc m l (f1, f2, f3, f4, f5, f6, a1, a2, a3, a4, a5, a6, a7, a8, a9, a10, a11, a12, a13, a14, a15, a16, a17, a18, a19, a20)) (hi : i < 4) (hB : x < 64) (hj : j = i) (hy : y = nI x) : aq_R u v fc (aq_s m (32 + i) x) l (f1, f2, f3, f4, f5, f6, a1, a2, a3, upd a4 j y, a5, a6, a7, a8, a9, a10, a11, a12, a13, a14, a15, a16, a17, a18, a19, a20) :=
  ⟨aq_Fn (aq_r_f1 h) (by omega) (by omega), aq_Fn (aq_r_f2 h) (by omega) (by omega), aq_Fn (aq_r_f3 h) (by omega) (by omega), aq_r_f4 h, aq_Fn (aq_r_f5 h) (by omega) (by omega), aq_Fn (aq_r_f6 h) (by omega) (by omega), aq_An (aq_r_a1 h) (by omega) (by omega), aq_An (aq_r_a2 h) (by omega) (by omega), aq_An (aq_r_a3 h) (by omega) (by omega), aq_As (aq_r_a4 h) (by omega) hB hj hy, aq_r_a5 h, aq_r_a6 h, aq_r_a7 h, aq_r_a8 h, aq_r_a9 h, aq_r_a10 h, aq_An (aq_r_a12 h) (by omega) (by omega), aq_An (aq_r_a13 h) (by omega) (by omega), aq_An (aq_r_a14 h) (by omega) (by omega), aq_An (aq_r_a15 h) (by omega) (by omega), aq_An (aq_r_a16 h) (by omega) (by omega), aq_An (aq_r_a17 h) (by omega) (by omega), aq_An (aq_r_a18 h) (by omega) (by omega), aq_An (aq_r_a19 h) (by omega) (by omega), aq_An (aq_r_a20 h) (by omega) (by omega)⟩
theorem aq_w_a5 {u v : Int32} {fc m l : Nat} {f1 f2 f3 f4 f5 f6 : Int32} {a1 a2 a3 a4 a5 a6 a7 a8 a9 a10 a11 a12 a13 a14 a15 a16 a17 a18 a19 a20 : Nat → Int32} {i j x : Nat} {y : Int32} (h : aq_R u v fc m l (f1, f2, f3, f4, f5, f6, a1, a2, a3, a4, a5, a6, a7, a8, a9, a10, a11, a12, a13, a14, a15, a16, a17, a18, a19, a20)) (hB : x < 4) (hj : j = i) (hy : y = nI x) : aq_R u v fc m (aq_s l (8 * i + 0) x) (f1, f2, f3, f4, f5, f6, a1, a2, a3, a4, upd a5 j y, a6, a7, a8, a9, a10, a11, a12, a13, a14, a15, a16, a17, a18, a19, a20) :=
  ⟨aq_r_f1 h, aq_r_f2 h, aq_r_f3 h, aq_r_f4 h, aq_r_f5 h, aq_r_f6 h, aq_r_a1 h, aq_r_a2 h, aq_r_a3 h, aq_r_a4 h, aq_Ls (aq_r_a5 h) (by omega) hB hj hy, aq_Ln (aq_r_a6 h) (by omega) (by decide) (by decide) (by decide), aq_Ln (aq_r_a7 h) (by omega) (by decide) (by decide) (by decide), aq_Ln (aq_r_a8 h) (by omega) (by decide) (by decide) (by decide), aq_Ln (aq_r_a9 h) (by omega) (by decide) (by decide) (by decide), aq_Ln (aq_r_a10 h) (by omega) (by decide) (by decide) (by decide), aq_r_a12 h, aq_r_a13 h, aq_r_a14 h, aq_r_a15 h, aq_r_a16 h, aq_r_a17 h, aq_r_a18 h, aq_r_a19 h, aq_r_a20 h⟩
theorem aq_w_a6 {u v : Int32} {fc m l : Nat} {f1 f2 f3 f4 f5 f6 : Int32} {a1 a2 a3 a4 a5 a6 a7 a8 a9 a10 a11 a12 a13 a14 a15 a16 a17 a18 a19 a20 : Nat → Int32} {i j x : Nat} {y : Int32} (h : aq_R u v fc m l (f1, f2, f3, f4, f5, f6, a1, a2, a3, a4, a5, a6, a7, a8, a9, a10, a11, a12, a13, a14, a15, a16, a17, a18, a19, a20)) (hB : x < 3) (hj : j = i) (hy : y = nI x) : aq_R u v fc m (aq_s l (8 * i + 1) x) (f1, f2, f3, f4, f5, f6, a1, a2, a3, a4, a5, upd a6 j y, a7, a8, a9, a10, a11, a12, a13, a14, a15, a16, a17, a18, a19, a20) :=
  ⟨aq_r_f1 h, aq_r_f2 h, aq_r_f3 h, aq_r_f4 h, aq_r_f5 h, aq_r_f6 h, aq_r_a1 h, aq_r_a2 h, aq_r_a3 h, aq_r_a4 h, aq_Ln (aq_r_a5 h) (by omega) (by decide) (by decide) (by decide), aq_Ls (aq_r_a6 h) (by omega) hB hj hy, aq_Ln (aq_r_a7 h) (by omega) (by decide) (by decide) (by decide), aq_Ln (aq_r_a8 h) (by omega) (by decide) (by decide) (by decide), aq_Ln (aq_r_a9 h) (by omega) (by decide) (by decide) (by decide), aq_Ln (aq_r_a10 h) (by omega) (by decide) (by decide) (by decide), aq_r_a12 h, aq_r_a13 h, aq_r_a14 h, aq_r_a15 h, aq_r_a16 h, aq_r_a17 h, aq_r_a18 h, aq_r_a19 h, aq_r_a20 h⟩
theorem aq_w_a7 {u v : Int32} {fc m l : Nat} {f1 f2 f3 f4 f5 f6 : Int32} {a1 a2 a3 a4 a5 a6 a7 a8 a9 a10 a11 a12 a13 a14 a15 a16 a17 a18 a19 a20 : Nat → Int32} {i j x : Nat} {y : Int32} (h : aq_R u v fc m l (f1, f2, f3, f4, f5, f6, a1, a2, a3, a4, a5, a6, a7, a8, a9, a10, a11, a12, a13, a14, a15, a16, a17, a18, a19, a20)) (hB : x < 16) (hj : j = i) (hy : y = nI x) : aq_R u v fc m (aq_s l (8 * i + 2) x) (f1, f2, f3, f4, f5, f6, a1, a2, a3, a4, a5, a6, upd a7 j y, a8, a9, a10, a11, a12, a13, a14, a15, a16, a17, a18, a19, a20) :=
  ⟨aq_r_f1 h, aq_r_f2 h, aq_r_f3 h, aq_r_f4 h, aq_r_f5 h, aq_r_f6 h, aq_r_a1 h, aq_r_a2 h, aq_r_a3 h, aq_r_a4 h, aq_Ln (aq_r_a5 h) (by omega) (by decide) (by decide) (by decide), aq_Ln (aq_r_a6 h) (by omega) (by decide) (by decide) (by decide), aq_Ls (aq_r_a7 h) (by omega) hB hj hy, aq_Ln (aq_r_a8 h) (by omega) (by decide) (by decide) (by decide), aq_Ln (aq_r_a9 h) (by omega) (by decide) (by decide) (by decide), aq_Ln (aq_r_a10 h) (by omega) (by decide) (by decide) (by decide), aq_r_a12 h, aq_r_a13 h, aq_r_a14 h, aq_r_a15 h, aq_r_a16 h, aq_r_a17 h, aq_r_a18 h, aq_r_a19 h, aq_r_a20 h⟩
theorem aq_w_a8 {u v : Int32} {fc m l : Nat} {f1 f2 f3 f4 f5 f6 : Int32} {a1 a2 a3 a4 a5 a6 a7 a8 a9 a10 a11 a12 a13 a14 a15 a16 a17 a18 a19 a20 : Nat → Int32} {i j x : Nat} {y : Int32} (h : aq_R u v fc m l (f1, f2, f3, f4, f5, f6, a1, a2, a3, a4, a5, a6, a7, a8, a9, a10, a11, a12, a13, a14, a15, a16, a17, a18, a19, a20)) (hB : x < 16777216) (hj : j = i) (hy : y = (aq_v u v) x) : aq_R u v fc m (aq_s l (8 * i + 3) x) (f1, f2, f3, f4, f5, f6, a1, a2, a3, a4, a5, a6, a7, upd a8 j y, a9, a10, a11, a12, a13, a14, a15, a16, a17, a18, a19, a20) :=
  ⟨aq_r_f1 h, aq_r_f2 h, aq_r_f3 h, aq_r_f4 h, aq_r_f5 h, aq_r_f6 h, aq_r_a1 h, aq_r_a2 h, aq_r_a3 h, aq_r_a4 h, aq_Ln (aq_r_a5 h) (by omega) (by decide) (by decide) (by decide), aq_Ln (aq_r_a6 h) (by omega) (by decide) (by decide) (by decide), aq_Ln (aq_r_a7 h) (by omega) (by decide) (by decide) (by decide), aq_Ls (aq_r_a8 h) (by omega) hB hj hy, aq_Ln (aq_r_a9 h) (by omega) (by decide) (by decide) (by decide), aq_Ln (aq_r_a10 h) (by omega) (by decide) (by decide) (by decide), aq_r_a12 h, aq_r_a13 h, aq_r_a14 h, aq_r_a15 h, aq_r_a16 h, aq_r_a17 h, aq_r_a18 h, aq_r_a19 h, aq_r_a20 h⟩
theorem aq_w_a9 {u v : Int32} {fc m l : Nat} {f1 f2 f3 f4 f5 f6 : Int32} {a1 a2 a3 a4 a5 a6 a7 a8 a9 a10 a11 a12 a13 a14 a15 a16 a17 a18 a19 a20 : Nat → Int32} {i j x : Nat} {y : Int32} (h : aq_R u v fc m l (f1, f2, f3, f4, f5, f6, a1, a2, a3, a4, a5, a6, a7, a8, a9, a10, a11, a12, a13, a14, a15, a16, a17, a18, a19, a20)) (hB : x < 16777216) (hj : j = i) (hy : y = (aq_v u v) x) : aq_R u v fc m (aq_s l (8 * i + 4) x) (f1, f2, f3, f4, f5, f6, a1, a2, a3, a4, a5, a6, a7, a8, upd a9 j y, a10, a11, a12, a13, a14, a15, a16, a17, a18, a19, a20) :=
  ⟨aq_r_f1 h, aq_r_f2 h, aq_r_f3 h, aq_r_f4 h, aq_r_f5 h, aq_r_f6 h, aq_r_a1 h, aq_r_a2 h, aq_r_a3 h, aq_r_a4 h, aq_Ln (aq_r_a5 h) (by omega) (by decide) (by decide) (by decide), aq_Ln (aq_r_a6 h) (by omega) (by decide) (by decide) (by decide), aq_Ln (aq_r_a7 h) (by omega) (by decide) (by decide) (by decide), aq_Ln (aq_r_a8 h) (by omega) (by decide) (by decide) (by decide), aq_Ls (aq_r_a9 h) (by omega) hB hj hy, aq_Ln (aq_r_a10 h) (by omega) (by decide) (by decide) (by decide), aq_r_a12 h, aq_r_a13 h, aq_r_a14 h, aq_r_a15 h, aq_r_a16 h, aq_r_a17 h, aq_r_a18 h, aq_r_a19 h, aq_r_a20 h⟩
theorem aq_w_a10 {u v : Int32} {fc m l : Nat} {f1 f2 f3 f4 f5 f6 : Int32} {a1 a2 a3 a4 a5 a6 a7 a8 a9 a10 a11 a12 a13 a14 a15 a16 a17 a18 a19 a20 : Nat → Int32} {i j x : Nat} {y : Int32} (h : aq_R u v fc m l (f1, f2, f3, f4, f5, f6, a1, a2, a3, a4, a5, a6, a7, a8, a9, a10, a11, a12, a13, a14, a15, a16, a17, a18, a19, a20)) (hB : x < 64) (hj : j = i) (hy : y = nI x) : aq_R u v fc m (aq_s l (8 * i + 5) x) (f1, f2, f3, f4, f5, f6, a1, a2, a3, a4, a5, a6, a7, a8, a9, upd a10 j y, a11, a12, a13, a14, a15, a16, a17, a18, a19, a20) :=
  ⟨aq_r_f1 h, aq_r_f2 h, aq_r_f3 h, aq_r_f4 h, aq_r_f5 h, aq_r_f6 h, aq_r_a1 h, aq_r_a2 h, aq_r_a3 h, aq_r_a4 h, aq_Ln (aq_r_a5 h) (by omega) (by decide) (by decide) (by decide), aq_Ln (aq_r_a6 h) (by omega) (by decide) (by decide) (by decide), aq_Ln (aq_r_a7 h) (by omega) (by decide) (by decide) (by decide), aq_Ln (aq_r_a8 h) (by omega) (by decide) (by decide) (by decide), aq_Ln (aq_r_a9 h) (by omega) (by decide) (by decide) (by decide), aq_Ls (aq_r_a10 h) (by omega) hB hj hy, aq_r_a12 h, aq_r_a13 h, aq_r_a14 h, aq_r_a15 h, aq_r_a16 h, aq_r_a17 h, aq_r_a18 h, aq_r_a19 h, aq_r_a20 h⟩
theorem aq_w_a12 {u v : Int32} {fc m l : Nat} {f1 f2 f3 f4 f5 f6 : Int32} {a1 a2 a3 a4 a5 a6 a7 a8 a9 a10 a11 a12 a13 a14 a15 a16 a17 a18 a19 a20 : Nat → Int32} {i j x : Nat} {y : Int32} (h : aq_R u v fc m l (f1, f2, f3, f4, f5, f6, a1, a2, a3, a4, a5, a6, a7, a8, a9, a10, a11, a12, a13, a14, a15, a16, a17, a18, a19, a20)) (hi : i < 3) (hB : x < 5) (hj : j = i) (hy : y = aq_p x) : aq_R u v fc (aq_s m (36 + i) x) l (f1, f2, f3, f4, f5, f6, a1, a2, a3, a4, a5, a6, a7, a8, a9, a10, a11, upd a12 j y, a13, a14, a15, a16, a17, a18, a19, a20) :=
  ⟨aq_Fn (aq_r_f1 h) (by omega) (by omega), aq_Fn (aq_r_f2 h) (by omega) (by omega), aq_Fn (aq_r_f3 h) (by omega) (by omega), aq_r_f4 h, aq_Fn (aq_r_f5 h) (by omega) (by omega), aq_Fn (aq_r_f6 h) (by omega) (by omega), aq_An (aq_r_a1 h) (by omega) (by omega), aq_An (aq_r_a2 h) (by omega) (by omega), aq_An (aq_r_a3 h) (by omega) (by omega), aq_An (aq_r_a4 h) (by omega) (by omega), aq_r_a5 h, aq_r_a6 h, aq_r_a7 h, aq_r_a8 h, aq_r_a9 h, aq_r_a10 h, aq_As (aq_r_a12 h) (by omega) hB hj hy, aq_An (aq_r_a13 h) (by omega) (by omega), aq_An (aq_r_a14 h) (by omega) (by omega), aq_An (aq_r_a15 h) (by omega) (by omega), aq_An (aq_r_a16 h) (by omega) (by omega), aq_An (aq_r_a17 h) (by omega) (by omega), aq_An (aq_r_a18 h) (by omega) (by omega), aq_An (aq_r_a19 h) (by omega) (by omega), aq_An (aq_r_a20 h) (by omega) (by omega)⟩
theorem aq_w_a13 {u v : Int32} {fc m l : Nat} {f1 f2 f3 f4 f5 f6 : Int32} {a1 a2 a3 a4 a5 a6 a7 a8 a9 a10 a11 a12 a13 a14 a15 a16 a17 a18 a19 a20 : Nat → Int32} {i j x : Nat} {y : Int32} (h : aq_R u v fc m l (f1, f2, f3, f4, f5, f6, a1, a2, a3, a4, a5, a6, a7, a8, a9, a10, a11, a12, a13, a14, a15, a16, a17, a18, a19, a20)) (hi : i < 12) (hB : x < 16777216) (hj : j = i) (hy : y = (aq_v u v) x) : aq_R u v fc (aq_s m (40 + i) x) l (f1, f2, f3, f4, f5, f6, a1, a2, a3, a4, a5, a6, a7, a8, a9, a10, a11, a12, upd a13 j y, a14, a15, a16, a17, a18, a19, a20) :=
  ⟨aq_Fn (aq_r_f1 h) (by omega) (by omega), aq_Fn (aq_r_f2 h) (by omega) (by omega), aq_Fn (aq_r_f3 h) (by omega) (by omega), aq_r_f4 h, aq_Fn (aq_r_f5 h) (by omega) (by omega), aq_Fn (aq_r_f6 h) (by omega) (by omega), aq_An (aq_r_a1 h) (by omega) (by omega), aq_An (aq_r_a2 h) (by omega) (by omega), aq_An (aq_r_a3 h) (by omega) (by omega), aq_An (aq_r_a4 h) (by omega) (by omega), aq_r_a5 h, aq_r_a6 h, aq_r_a7 h, aq_r_a8 h, aq_r_a9 h, aq_r_a10 h, aq_An (aq_r_a12 h) (by omega) (by omega), aq_As (aq_r_a13 h) (by omega) hB hj hy, aq_An (aq_r_a14 h) (by omega) (by omega), aq_An (aq_r_a15 h) (by omega) (by omega), aq_An (aq_r_a16 h) (by omega) (by omega), aq_An (aq_r_a17 h) (by omega) (by omega), aq_An (aq_r_a18 h) (by omega) (by omega), aq_An (aq_r_a19 h) (by omega) (by omega), aq_An (aq_r_a20 h) (by omega) (by omega)⟩
theorem aq_w_a14 {u v : Int32} {fc m l : Nat} {f1 f2 f3 f4 f5 f6 : Int32} {a1 a2 a3 a4 a5 a6 a7 a8 a9 a10 a11 a12 a13 a14 a15 a16 a17 a18 a19 a20 : Nat → Int32} {i j x : Nat} {y : Int32} (h : aq_R u v fc m l (f1, f2, f3, f4, f5, f6, a1, a2, a3, a4, a5, a6, a7, a8, a9, a10, a11, a12, a13, a14, a15, a16, a17, a18, a19, a20)) (hi : i < 3) (hB : x < 64) (hj : j = i) (hy : y = nI x) : aq_R u v fc (aq_s m (52 + i) x) l (f1, f2, f3, f4, f5, f6, a1, a2, a3, a4, a5, a6, a7, a8, a9, a10, a11, a12, a13, upd a14 j y, a15, a16, a17, a18, a19, a20) :=
  ⟨aq_Fn (aq_r_f1 h) (by omega) (by omega), aq_Fn (aq_r_f2 h) (by omega) (by omega), aq_Fn (aq_r_f3 h) (by omega) (by omega), aq_r_f4 h, aq_Fn (aq_r_f5 h) (by omega) (by omega), aq_Fn (aq_r_f6 h) (by omega) (by omega), aq_An (aq_r_a1 h) (by omega) (by omega), aq_An (aq_r_a2 h) (by omega) (by omega), aq_An (aq_r_a3 h) (by omega) (by omega), aq_An (aq_r_a4 h) (by omega) (by omega), aq_r_a5 h, aq_r_a6 h, aq_r_a7 h, aq_r_a8 h, aq_r_a9 h, aq_r_a10 h, aq_An (aq_r_a12 h) (by omega) (by omega), aq_An (aq_r_a13 h) (by omega) (by omega), aq_As (aq_r_a14 h) (by omega) hB hj hy, aq_An (aq_r_a15 h) (by omega) (by omega), aq_An (aq_r_a16 h) (by omega) (by omega), aq_An (aq_r_a17 h) (by omega) (by omega), aq_An (aq_r_a18 h) (by omega) (by omega), aq_An (aq_r_a19 h) (by omega) (by omega), aq_An (aq_r_a20 h) (by omega) (by omega)⟩
theorem aq_w_a15 {u v : Int32} {fc m l : Nat} {f1 f2 f3 f4 f5 f6 : Int32} {a1 a2 a3 a4 a5 a6 a7 a8 a9 a10 a11 a12 a13 a14 a15 a16 a17 a18 a19 a20 : Nat → Int32} {i j x : Nat} {y : Int32} (h : aq_R u v fc m l (f1, f2, f3, f4, f5, f6, a1, a2, a3, a4, a5, a6, a7, a8, a9, a10, a11, a12, a13, a14, a15, a16, a17, a18, a19, a20)) (hi : i < 3) (hB : x < 64) (hj : j = i) (hy : y = nI x) : aq_R u v fc (aq_s m (56 + i) x) l (f1, f2, f3, f4, f5, f6, a1, a2, a3, a4, a5, a6, a7, a8, a9, a10, a11, a12, a13, a14, upd a15 j y, a16, a17, a18, a19, a20) :=
  ⟨aq_Fn (aq_r_f1 h) (by omega) (by omega), aq_Fn (aq_r_f2 h) (by omega) (by omega), aq_Fn (aq_r_f3 h) (by omega) (by omega), aq_r_f4 h, aq_Fn (aq_r_f5 h) (by omega) (by omega), aq_Fn (aq_r_f6 h) (by omega) (by omega), aq_An (aq_r_a1 h) (by omega) (by omega), aq_An (aq_r_a2 h) (by omega) (by omega), aq_An (aq_r_a3 h) (by omega) (by omega), aq_An (aq_r_a4 h) (by omega) (by omega), aq_r_a5 h, aq_r_a6 h, aq_r_a7 h, aq_r_a8 h, aq_r_a9 h, aq_r_a10 h, aq_An (aq_r_a12 h) (by omega) (by omega), aq_An (aq_r_a13 h) (by omega) (by omega), aq_An (aq_r_a14 h) (by omega) (by omega), aq_As (aq_r_a15 h) (by omega) hB hj hy, aq_An (aq_r_a16 h) (by omega) (by omega), aq_An (aq_r_a17 h) (by omega) (by omega), aq_An (aq_r_a18 h) (by omega) (by omega), aq_An (aq_r_a19 h) (by omega) (by omega), aq_An (aq_r_a20 h) (by omega) (by omega)⟩
theorem aq_w_a16 {u v : Int32} {fc m l : Nat} {f1 f2 f3 f4 f5 f6 : Int32} {a1 a2 a3 a4 a5 a6 a7 a8 a9 a10 a11 a12 a13 a14 a15 a16 a17 a18 a19 a20 : Nat → Int32} {i j x : Nat} {y : Int32} (h : aq_R u v fc m l (f1, f2, f3, f4, f5, f6, a1, a2, a3, a4, a5, a6, a7, a8, a9, a10, a11, a12, a13, a14, a15, a16, a17, a18, a19, a20)) (hi : i < 3) (hB : x < 2) (hj : j = i) (hy : y = nI x) : aq_R u v fc (aq_s m (60 + i) x) l (f1, f2, f3, f4, f5, f6, a1, a2, a3, a4, a5, a6, a7, a8, a9, a10, a11, a12, a13, a14, a15, upd a16 j y, a17, a18, a19, a20) :=
  ⟨aq_Fn (aq_r_f1 h) (by omega) (by omega), aq_Fn (aq_r_f2 h) (by omega) (by omega), aq_Fn (aq_r_f3 h) (by omega) (by omega), aq_r_f4 h, aq_Fn (aq_r_f5 h) (by omega) (by omega), aq_Fn (aq_r_f6 h) (by omega) (by omega), aq_An (aq_r_a1 h) (by omega) (by omega), aq_An (aq_r_a2 h) (by omega) (by omega), aq_An (aq_r_a3 h) (by omega) (by omega), aq_An (aq_r_a4 h) (by omega) (by omega), aq_r_a5 h, aq_r_a6 h, aq_r_a7 h, aq_r_a8 h, aq_r_a9 h, aq_r_a10 h, aq_An (aq_r_a12 h) (by omega) (by omega), aq_An (aq_r_a13 h) (by omega) (by omega), aq_An (aq_r_a14 h) (by omega) (by omega), aq_An (aq_r_a15 h) (by omega) (by omega), aq_As (aq_r_a16 h) (by omega) hB hj hy, aq_An (aq_r_a17 h) (by omega) (by omega), aq_An (aq_r_a18 h) (by omega) (by omega), aq_An (aq_r_a19 h) (by omega) (by omega), aq_An (aq_r_a20 h) (by omega) (by omega)⟩
theorem aq_w_a17 {u v : Int32} {fc m l : Nat} {f1 f2 f3 f4 f5 f6 : Int32} {a1 a2 a3 a4 a5 a6 a7 a8 a9 a10 a11 a12 a13 a14 a15 a16 a17 a18 a19 a20 : Nat → Int32} {i j x : Nat} {y : Int32} (h : aq_R u v fc m l (f1, f2, f3, f4, f5, f6, a1, a2, a3, a4, a5, a6, a7, a8, a9, a10, a11, a12, a13, a14, a15, a16, a17, a18, a19, a20)) (hi : i < 3) (hB : x < 65536) (hj : j = i) (hy : y = nI x) : aq_R u v fc (aq_s m (64 + i) x) l (f1, f2, f3, f4, f5, f6, a1, a2, a3, a4, a5, a6, a7, a8, a9, a10, a11, a12, a13, a14, a15, a16, upd a17 j y, a18, a19, a20) :=
  ⟨aq_Fn (aq_r_f1 h) (by omega) (by omega), aq_Fn (aq_r_f2 h) (by omega) (by omega), aq_Fn (aq_r_f3 h) (by omega) (by omega), aq_r_f4 h, aq_Fn (aq_r_f5 h) (by omega) (by omega), aq_Fn (aq_r_f6 h) (by omega) (by omega), aq_An (aq_r_a1 h) (by omega) (by omega), aq_An (aq_r_a2 h) (by omega) (by omega), aq_An (aq_r_a3 h) (by omega) (by omega), aq_An (aq_r_a4 h) (by omega) (by omega), aq_r_a5 h, aq_r_a6 h, aq_r_a7 h, aq_r_a8 h, aq_r_a9 h, aq_r_a10 h, aq_An (aq_r_a12 h) (by omega) (by omega), aq_An (aq_r_a13 h) (by omega) (by omega), aq_An (aq_r_a14 h) (by omega) (by omega), aq_An (aq_r_a15 h) (by omega) (by omega), aq_An (aq_r_a16 h) (by omega) (by omega), aq_As (aq_r_a17 h) (by omega) hB hj hy, aq_An (aq_r_a18 h) (by omega) (by omega), aq_An (aq_r_a19 h) (by omega) (by omega), aq_An (aq_r_a20 h) (by omega) (by omega)⟩
theorem aq_w_a18 {u v : Int32} {fc m l : Nat} {f1 f2 f3 f4 f5 f6 : Int32} {a1 a2 a3 a4 a5 a6 a7 a8 a9 a10 a11 a12 a13 a14 a15 a16 a17 a18 a19 a20 : Nat → Int32} {i j x : Nat} {y : Int32} (h : aq_R u v fc m l (f1, f2, f3, f4, f5, f6, a1, a2, a3, a4, a5, a6, a7, a8, a9, a10, a11, a12, a13, a14, a15, a16, a17, a18, a19, a20)) (hi : i < 3) (hB : x < 32) (hj : j = i) (hy : y = nI x) : aq_R u v fc (aq_s m (68 + i) x) l (f1, f2, f3, f4, f5, f6, a1, a2, a3, a4, a5, a6, a7, a8, a9, a10, a11, a12, a13, a14, a15, a16, a17, upd a18 j y, a19, a20) :=
  ⟨aq_Fn (aq_r_f1 h) (by omega) (by omega), aq_Fn (aq_r_f2 h) (by omega) (by omega), aq_Fn (aq_r_f3 h) (by omega) (by omega), aq_r_f4 h, aq_Fn (aq_r_f5 h) (by omega) (by omega), aq_Fn (aq_r_f6 h) (by omega) (by omega), aq_An (aq_r_a1 h) (by omega) (by omega), aq_An (aq_r_a2 h) (by omega) (by omega), aq_An (aq_r_a3 h) (by omega) (by omega), aq_An (aq_r_a4 h) (by omega) (by omega), aq_r_a5 h, aq_r_a6 h, aq_r_a7 h, aq_r_a8 h, aq_r_a9 h, aq_r_a10 h, aq_An (aq_r_a12 h) (by omega) (by omega), aq_An (aq_r_a13 h) (by omega) (by omega), aq_An (aq_r_a14 h) (by omega) (by omega), aq_An (aq_r_a15 h) (by omega) (by omega), aq_An (aq_r_a16 h) (by omega) (by omega), aq_An (aq_r_a17 h) (by omega) (by omega), aq_As (aq_r_a18 h) (by omega) hB hj hy, aq_An (aq_r_a19 h) (by omega) (by omega), aq_An (aq_r_a20 h) (by omega) (by omega)⟩
theorem aq_w_a19 {u v : Int32} {fc m l : Nat} {f1 f2 f3 f4 f5 f6 : Int32} {a1 a2 a3 a4 a5 a6 a7 a8 a9 a10 a11 a12 a13 a14 a15 a16 a17 a18 a19 a20 : Nat → Int32} {i j x : Nat} {y : Int32} (h : aq_R u v fc m l (f1, f2, f3, f4, f5, f6, a1, a2, a3, a4, a5, a6, a7, a8, a9, a10, a11, a12, a13, a14, a15, a16, a17, a18, a19, a20)) (hi : i < 3) (hB : x < 64) (hj : j = i) (hy : y = nI x) : aq_R u v fc (aq_s m (72 + i) x) l (f1, f2, f3, f4, f5, f6, a1, a2, a3, a4, a5, a6, a7, a8, a9, a10, a11, a12, a13, a14, a15, a16, a17, a18, upd a19 j y, a20) :=
  ⟨aq_Fn (aq_r_f1 h) (by omega) (by omega), aq_Fn (aq_r_f2 h) (by omega) (by omega), aq_Fn (aq_r_f3 h) (by omega) (by omega), aq_r_f4 h, aq_Fn (aq_r_f5 h) (by omega) (by omega), aq_Fn (aq_r_f6 h) (by omega) (by omega), aq_An (aq_r_a1 h) (by omega) (by omega), aq_An (aq_r_a2 h) (by omega) (by omega), aq_An (aq_r_a3 h) (by omega) (by omega), aq_An (aq_r_a4 h) (by omega) (by omega), aq_r_a5 h, aq_r_a6 h, aq_r_a7 h, aq_r_a8 h, aq_r_a9 h, aq_r_a10 h, aq_An (aq_r_a12 h) (by omega) (by omega), aq_An (aq_r_a13 h) (by omega) (by omega), aq_An (aq_r_a14 h) (by omega) (by omega), aq_An (aq_r_a15 h) (by omega) (by omega), aq_An (aq_r_a16 h) (by omega) (by omega), aq_An (aq_r_a17 h) (by omega) (by omega), aq_An (aq_r_a18 h) (by omega) (by omega), aq_As (aq_r_a19 h) (by omega) hB hj hy, aq_An (aq_r_a20 h) (by omega) (by omega)⟩
theorem aq_w_a20 {u v : Int32} {fc m l : Nat} {f1 f2 f3 f4 f5 f6 : Int32} {a1 a2 a3 a4 a5 a6 a7 a8 a9 a10 a11 a12 a13 a14 a15 a16 a17 a18 a19 a20 : Nat → Int32} {i j x : Nat} {y : Int32} (h : aq_R u v fc m l (f1, f2, f3, f4, f5, f6, a1, a2, a3, a4, a5, a6, a7, a8, a9, a10, a11, a12, a13, a14, a15, a16, a17, a18, a19, a20)) (hi : i < 3) (hB : x < 64) (hj : j = i) (hy : y = nI x) : aq_R u v fc (aq_s m (76 + i) x) l (f1, f2, f3, f4, f5, f6, a1, a2, a3, a4, a5, a6, a7, a8, a9, a10, a11, a12, a13, a14, a15, a16, a17, a18, a19, upd a20 j y) :=
  ⟨aq_Fn (aq_r_f1 h) (by omega) (by omega), aq_Fn (aq_r_f2 h) (by omega) (by omega), aq_Fn (aq_r_f3 h) (by omega) (by omega), aq_r_f4 h, aq_Fn (aq_r_f5 h) (by omega) (by omega), aq_Fn (aq_r_f6 h) (by omega) (by omega), aq_An (aq_r_a1 h) (by omega) (by omega), aq_An (aq_r_a2 h) (by omega) (by omega), aq_An (aq_r_a3 h) (by omega) (by omega), aq_An (aq_r_a4 h) (by omega) (by omega), aq_r_a5 h, aq_r_a6 h, aq_r_a7 h, aq_r_a8 h, aq_r_a9 h, aq_r_a10 h, aq_An (aq_r_a12 h) (by omega) (by omega), aq_An (aq_r_a13 h) (by omega) (by omega), aq_An (aq_r_a14 h) (by omega) (by omega), aq_An (aq_r_a15 h) (by omega) (by omega), aq_An (aq_r_a16 h) (by omega) (by omega), aq_An (aq_r_a17 h) (by omega) (by omega), aq_An (aq_r_a18 h) (by omega) (by omega), aq_An (aq_r_a19 h) (by omega) (by omega), aq_As (aq_r_a20 h) (by omega) hB hj hy⟩
end
section
/-- a number, worked out before it goes on -/
noncomputable def aq_z (x : Nat) (k : Nat → Bool) : Bool := Nat.rec (motive := fun _ => Bool) (k 0) (fun n _ => k (Nat.succ n)) x
/-- for i in 0 .. n: m := b i m -/
noncomputable def aq_for (b : Nat → Nat → Nat) (m n : Nat) : Nat := Nat.rec (motive := fun _ => Nat) m (fun i ih => b i ih) n
/-- all below n -/
noncomputable def aq_all (f : Nat → Bool) (n : Nat) : Bool := Nat.rec (motive := fun _ => Bool) true (fun i ih => and (f i) ih) n
/-- the bits of h below n -/
noncomputable def aq_bits (h n : Nat) : Nat := Nat.rec (motive := fun _ => Nat) 0 (fun i ih => Nat.add ih (Nat.mod (Nat.shiftRight h i) 2)) n
/-- a content more: the codes add up while no part runs over -/
noncomputable def aq_va (x y : Nat) (k : Nat → Bool) : Bool := and (Nat.ble (x % 256 + y % 256) 255) (and (Nat.ble (x / 256 % 256 + y / 256 % 256) 255) (and (Nat.ble (x / 65536 + y / 65536) 255) (aq_z (x + y) k)))
noncomputable def aq_app (m l kd t c o x q : Nat) (k : Nat → Nat → Bool) : Bool :=
  aq_z (aq_g m 2 + 1) fun n => and (Nat.ble n 63) (aq_z (aq_s (aq_s (aq_s (aq_s (aq_s (aq_s l (8 * n + 0) kd) (8 * n + 1) t) (8 * n + 2) c) (8 * n + 3) o) (8 * n + 4) x) (8 * n + 5) q) fun l' => aq_z (aq_s (aq_s m 2 n) (72 + t) n) fun m' => k m' l')
noncomputable def aq_ape (m l f c x n : Nat) (k : Nat → Nat → Bool) : Bool :=
  bif Nat.beq (aq_g m (56 + f)) 0 then aq_z (aq_s (aq_s (aq_s m (40 + (4 * f + c % 4)) x) (52 + f) n) (56 + f) n) fun m' => k m' l
  else aq_z (aq_s (aq_s m (40 + (4 * f + c % 4)) x) (52 + f) n) fun m' => k m' l
/-- n cells, from s0 + s1 to d0 + d1 -/
noncomputable def aq_cp (m s0 s1 d0 d1 n : Nat) : Nat := aq_for (fun i m => aq_s m (d0 + (d1 + i)) (aq_g m (s0 + (s1 + i)))) m n
noncomputable def aq_wp (m l f : Nat) (k : Nat → Nat → Bool) : Bool :=
  bif Nat.beq (aq_g m (36 + f)) 0 then k m l else bif Nat.beq (aq_g m (56 + f)) 0 then k m l else
  aq_z (aq_g m (36 + f) - 1) fun p => aq_z (bif Nat.ble (aq_g m (52 + f)) (aq_g m 0) then m else aq_s m 0 (aq_g m (52 + f))) fun m => aq_z (aq_cp m 40 (4 * f) 8 (4 * p) 4) fun m => aq_z (aq_s (aq_s m (24 + p) (aq_g m (52 + f))) (56 + f) 0) fun m => k m l
noncomputable def aq_ev2 (f p : Nat) (k : Nat → Nat → Nat → Bool) (m l : Nat) : Bool := aq_z (aq_cp (aq_s m (36 + f) (p + 1)) 8 (4 * p) 40 (4 * f) 4) fun m => aq_z (aq_s (aq_s m (52 + f) (aq_g m (24 + p))) (56 + f) 0) fun m => k f m l
noncomputable def aq_ev (fc m l p : Nat) (k : Nat → Nat → Nat → Bool) : Bool :=
  and (Nat.ble p 3) (aq_z (aq_g m 3) fun f => aq_z (aq_s m 3 (bif Nat.ble fc (f + 1) then 0 else f + 1)) fun m => aq_wp m l f (aq_ev2 f p k))
noncomputable def aq_brL (fc p m l : Nat) (k : Nat → Nat → Nat → Bool) (n : Nat) : Nat → Bool :=
  Nat.rec (motive := fun _ => Nat → Bool) (fun _ => false) (fun _ ih f => bif Nat.ble fc f then aq_ev fc m l p k else bif Nat.beq (aq_g m (36 + f)) (p + 1) then k f m l else ih (f + 1)) n
noncomputable def aq_br (fc m l p : Nat) (k : Nat → Nat → Nat → Bool) : Bool := aq_brL fc p m l k 4 0
noncomputable def aq_rd (fc m l c : Nat) (k : Nat → Nat → Nat → Bool) : Bool := aq_br fc m l (c / 4) fun f m l => aq_z (aq_g m (40 + (4 * f + c % 4))) fun x => k x m l
noncomputable def aq_ckL (m t c n : Nat) : Nat → Nat :=
  Nat.rec (motive := fun _ => Nat → Nat) (fun _ => 9) (fun _ ih w => bif Nat.ble 3 w then (bif Nat.ble 20 (aq_g m (68 + t)) then 4 else 0) else bif Nat.beq w t then ih (w + 1) else bif Nat.beq (aq_g m (60 + w)) 0 then ih (w + 1) else bif Nat.beq (aq_g m (64 + w) / 2 ^ c % 2) 0 then ih (w + 1) else 3) n
noncomputable def aq_ck (m t c : Nat) : Nat := bif Nat.beq (aq_g m (60 + t)) 0 then 2 else aq_ckL m t c 4 0
noncomputable def aq_ch (fc m l t c x : Nat) (k : Nat → Nat → Nat → Bool) : Bool :=
  aq_br fc m l (c / 4) fun f m l => aq_app m l 0 t c (aq_g m (40 + (4 * f + c % 4))) x (aq_g m (72 + t)) fun m l => aq_ape m l f c x (aq_g m 2) fun m l =>
  aq_z (aq_s m (64 + t) (Nat.lor (aq_g m (64 + t)) (2 ^ c))) fun m => and (Nat.ble (aq_g m (68 + t)) 30) (aq_z (aq_s m (68 + t) (aq_g m (68 + t) + 1)) fun m => aq_z (aq_bits (aq_g m (64 + t)) 16) fun r => k r m l)
noncomputable def aq_wr (fc m l t c x : Nat) (k : Nat → Nat → Nat → Bool) : Bool := and (Nat.beq (aq_ck m t c) 0) (aq_ch fc m l t c x k)
noncomputable def aq_add (fc m l t c x : Nat) (k : Nat → Nat → Nat → Bool) : Bool := and (Nat.beq (aq_ck m t c) 0) (aq_rd fc m l c fun y m l => aq_va y x fun w => aq_ch fc m l t c w k)
noncomputable def aq_beg (m l t : Nat) (k : Nat → Nat → Bool) : Bool :=
  and (Nat.beq (aq_g m (60 + t)) 0) (aq_z (aq_s (aq_s (aq_s (aq_s (aq_s m (60 + t) 1) (64 + t) 0) (68 + t) 0) (72 + t) 0) (76 + t) 0) fun m => k m l)
noncomputable def aq_mk (m l t : Nat) (k : Nat → Nat → Bool) : Bool := bif Nat.beq (aq_g m (60 + t)) 0 then false else aq_z (aq_s m (76 + t) (aq_g m (72 + t))) fun m => k m l
noncomputable def aq_com (m l t : Nat) (k : Nat → Nat → Nat → Bool) : Bool :=
  bif Nat.beq (aq_g m (60 + t)) 0 then false else aq_app m l 2 t 0 0 0 (aq_g m (72 + t)) fun m l => aq_z (aq_s (aq_s m 0 (aq_g m 2)) (60 + t) 0) fun m => aq_z (aq_bits (aq_g m (64 + t)) 16) fun r => k r m l
noncomputable def aq_ue (fc m l n t : Nat) (k : Nat → Nat → Bool) : Bool :=
  aq_z (aq_g l (8 * n + 2)) fun c => aq_br fc m l (c / 4) fun f m l => aq_app m l 1 t c 0 (aq_g l (8 * n + 3)) (aq_g l (8 * n + 5)) fun m l => aq_ape m l f c (aq_g l (8 * n + 3)) (aq_g m 2) k
noncomputable def aq_unL (fc t q : Nat) (k : Nat → Nat → Nat → Bool) (w : Nat) : Nat → Nat → Nat → Nat → Bool :=
  Nat.rec (motive := fun _ => Nat → Nat → Nat → Nat → Bool) (fun _ _ _ _ => false) (fun _ ih n r m l => bif Nat.ble n q then k r m l else bif Nat.ble (aq_g m 4) 0 then k r m l else
    bif Nat.beq (aq_g l (8 * n + 0)) 0 then aq_ue fc m l n t (fun m l => and (Nat.ble 1 (aq_g m 4)) (aq_z (aq_s m 4 (aq_g m 4 - 1)) fun m => aq_z (aq_g l (8 * n + 5)) fun n' => ih n' (r + 1) m l))
    else aq_z (aq_g l (8 * n + 5)) fun n' => ih n' r m l) w
noncomputable def aq_un (fc m l t q : Nat) (k : Nat → Nat → Nat → Bool) : Bool := aq_z (aq_g m (72 + t)) fun n => aq_unL fc t q k 64 n 0 m l
noncomputable def aq_back (fc m l t : Nat) (k : Nat → Nat → Nat → Bool) : Bool :=
  bif Nat.beq (aq_g m (60 + t)) 0 then false else aq_z (aq_s m 4 100000) fun m => aq_z (aq_g m (76 + t)) fun q => aq_un fc m l t q k
noncomputable def aq_abo (fc m l t : Nat) (k : Nat → Nat → Nat → Bool) : Bool :=
  bif Nat.beq (aq_g m (60 + t)) 0 then false else aq_z (aq_s m 4 100000) fun m => aq_un fc m l t 0 fun _ m l => aq_app m l 3 t 0 0 0 (aq_g m (72 + t)) fun m l => aq_z (aq_s m (60 + t) 0) fun m => aq_z (aq_bits (aq_g m (64 + t)) 16) fun r => k r m l
/-- how many run -/
noncomputable def aq_rc (m n : Nat) : Nat := Nat.rec (motive := fun _ => Nat) 0 (fun i ih => Nat.add ih (aq_g m (60 + i))) n
noncomputable def aq_cpL (fc l : Nat) (k : Nat → Nat → Nat → Bool) (w : Nat) : Nat → Nat → Bool :=
  Nat.rec (motive := fun _ => Nat → Nat → Bool) (fun _ _ => false) (fun _ ih f m => bif Nat.ble fc f then aq_z (aq_rc m 3) fun r => k r m l else bif Nat.beq (aq_g m (36 + f)) 0 then ih (f + 1) m else aq_z (aq_s m (32 + (aq_g m (36 + f) - 1)) (aq_g m (56 + f))) fun m => ih (f + 1) m) w
noncomputable def aq_chk (fc m l : Nat) (k : Nat → Nat → Nat → Bool) : Bool :=
  aq_z (aq_s (aq_s m 0 (aq_g m 2)) 1 (aq_g m 2)) fun m => aq_z (aq_for (fun t m => aq_s m (28 + t) (bif Nat.beq (aq_g m (60 + t)) 0 then 0 else aq_g m (72 + t))) m 3) fun m => aq_z (aq_for (fun p m => aq_s m (32 + p) 0) m 4) fun m => aq_cpL fc l k 4 0 m
noncomputable def aq_lose (m l : Nat) (k : Nat → Nat → Bool) : Bool :=
  aq_z (aq_s m 2 (aq_g m 0)) fun m => aq_z (aq_for (fun f m => aq_s m (36 + f) 0) m 3) fun m => aq_z (aq_for (fun t m => aq_s (aq_s m (60 + t) 0) (72 + t) 0) m 3) fun m => k m l
noncomputable def aq_flL (l : Nat) (k : Nat → Nat → Bool) (w : Nat) : Nat → Nat → Bool :=
  Nat.rec (motive := fun _ => Nat → Nat → Bool) (fun _ _ => false) (fun _ ih n m => bif Nat.ble n (aq_g m 2) then aq_z (aq_s m (72 + aq_g l (8 * n + 1)) (bif Nat.ble 2 (aq_g l (8 * n + 0)) then 0 else n)) fun m => ih (n + 1) m else k m l) w
noncomputable def aq_fl (m l : Nat) (k : Nat → Nat → Bool) : Bool :=
  aq_z (aq_for (fun t m => aq_s m (72 + t) (aq_g m (28 + t))) m 3) fun m => aq_z (aq_g m 1 + 1) fun n => aq_flL l k 65 n m
/-- the first entry to do again -/
noncomputable def aq_fr (m n : Nat) : Nat := Nat.rec (motive := fun _ => Nat) (aq_g m 1 + 1) (fun p ih => bif Nat.beq (aq_g m (32 + p)) 0 then ih else bif Nat.ble ih (aq_g m (32 + p)) then ih else aq_g m (32 + p)) n
noncomputable def aq_daL (fc : Nat) (k : Nat → Nat → Bool) (w : Nat) : Nat → Nat → Nat → Bool :=
  Nat.rec (motive := fun _ => Nat → Nat → Nat → Bool) (fun _ _ _ => false) (fun _ ih n m l => bif Nat.ble n (aq_g m 2) then (bif Nat.ble (aq_g m 4) 0 then k m l else
    bif Nat.ble 2 (aq_g l (8 * n + 0)) then ih (n + 1) m l else aq_br fc m l (aq_g l (8 * n + 2) / 4) fun f m l => bif Nat.ble n (aq_g m (52 + f)) then ih (n + 1) m l else
      aq_ape m l f (aq_g l (8 * n + 2)) (aq_g l (8 * n + 4)) n fun m l => and (Nat.ble 1 (aq_g m 4)) (aq_z (aq_s m 4 (aq_g m 4 - 1)) fun m => ih (n + 1) m l)) else k m l) w
noncomputable def aq_da (fc m l : Nat) (k : Nat → Nat → Bool) : Bool := aq_z (aq_fr m 4) fun n => aq_daL fc k 65 n m l
noncomputable def aq_waL (fc : Nat) (k : Nat → Nat → Bool) (w : Nat) : Nat → Nat → Nat → Bool :=
  Nat.rec (motive := fun _ => Nat → Nat → Nat → Bool) (fun _ _ _ => false) (fun _ ih f m l => bif Nat.ble fc f then k m l else aq_wp m l f fun m l => ih (f + 1) m l) w
noncomputable def aq_fg (m l : Nat) (k : Nat → Nat → Bool) : Bool :=
  aq_z (aq_for (fun t m => aq_s m (28 + t) 0) (aq_s m 1 0) 3) fun m => aq_z (aq_for (fun p m => aq_s (aq_s m (24 + p) 0) (32 + p) 0) m 4) fun m => aq_z (aq_for (fun f m => aq_s (aq_s m (52 + f) 0) (56 + f) 0) m 3) fun m => k m l
noncomputable def aq_cl (fc m l : Nat) (k : Nat → Nat → Bool) : Bool := aq_waL fc (fun m l => aq_z (aq_s (aq_s m 2 0) 0 0) fun m => aq_fg m l k) 4 0 m l
noncomputable def aq_rsL (fc : Nat) (k : Nat → Nat → Bool) (w : Nat) : Nat → Nat → Nat → Bool :=
  Nat.rec (motive := fun _ => Nat → Nat → Nat → Bool) (fun _ _ _ => false) (fun _ ih t m l => bif Nat.ble 3 t then (bif Nat.ble (aq_g m 4) 0 then k m l else aq_cl fc m l k) else
    bif Nat.beq (aq_g m (72 + t)) 0 then ih (t + 1) m l else bif Nat.ble 1 (aq_g m 4) then (aq_un fc m l t 0 fun _ m l => bif Nat.ble 1 (aq_g m 4) then (aq_app m l 3 t 0 0 0 (aq_g m (72 + t)) fun m l => aq_z (aq_s m (72 + t) 0) fun m => ih (t + 1) m l) else ih (t + 1) m l) else ih (t + 1) m l) w
noncomputable def aq_rs (fc m l n : Nat) (k : Nat → Nat → Bool) : Bool := aq_z (aq_s m 4 n) fun m => aq_fl m l fun m l => aq_da fc m l fun m l => aq_rsL fc k 4 0 m l
noncomputable def aq_cr (fc m l : Nat) (k : Nat → Nat → Nat → Bool) : Bool := aq_z (aq_rc m 3) fun r => aq_lose m l fun m l => aq_rs fc m l 100000 fun m l => k r m l
noncomputable def aq_cr2 (fc m l n : Nat) (k : Nat → Nat → Nat → Bool) : Bool := aq_z (aq_rc m 3) fun r => aq_lose m l fun m l => aq_rs fc m l n fun m l => aq_lose m l fun m l => aq_rs fc m l 100000 fun m l => k r m l
/-! the law -/
/-- what the ninth cell must hold: v if it was kept -/
def aq_kv (e : Nat) : Nat := bif Nat.beq e 0 then 0 else 256
noncomputable def aq_end (fc b m l : Nat) : Bool :=
  and (Nat.beq (aq_ck m 0 b) 2) (aq_beg m l 0 fun m l => aq_add fc m l 0 b 256 fun r m l => and (Nat.beq r 1) (aq_com m l 0 fun r m l => and (Nat.beq r 1) (aq_cr fc m l fun r m l => and (Nat.beq r 0) (aq_rd fc m l b fun x _ _ => Nat.beq x 256))))
noncomputable def aq_cells (fc b q e : Nat) (w : Nat) : Nat → Nat → Nat → Bool :=
  Nat.rec (motive := fun _ => Nat → Nat → Nat → Bool) (fun _ _ _ => false) (fun _ ih c m l => bif Nat.ble 8 c then aq_end fc b m l else aq_rd fc m l c fun x m l => and (Nat.beq x (bif Nat.beq c q then aq_kv e else 0)) (ih (c + 1) m l)) w
noncomputable def aq_tail (fc b q e r m l : Nat) : Bool :=
  and (Nat.beq r 2) (aq_rd fc m l q fun x m l => and (Nat.beq x (aq_kv e)) (aq_rd fc m l b fun x m l => and (Nat.beq x 0) (aq_chk fc m l fun r m l => and (Nat.beq r 0) (aq_cells fc b q e 9 0 m l))))
noncomputable def aq_modes (fc b q e m l : Nat) : Bool :=
  and (aq_cr fc m l fun r m l => aq_tail fc b q e r m l) (aq_all (fun n => aq_cr2 fc m l n fun r m l => aq_tail fc b q e r m l) 41)
noncomputable def aq_kept (fc b q e r m l : Nat) : Bool :=
  and (Nat.beq r 2) (aq_rd fc m l q fun x m l => and (Nat.beq x (aq_kv e)) (aq_wr fc m l 2 q 1 fun r m l => and (Nat.beq r 1) (aq_add fc m l 2 q 1 fun r m l => and (Nat.beq r 1) (aq_rd fc m l q fun x m l => and (Nat.beq x 2) (aq_modes fc b q e m l)))))
noncomputable def aq_mid (fc b q m l : Nat) : Bool :=
  and (aq_abo fc m l 1 fun r m l => aq_kept fc b q 0 r m l) (aq_com m l 1 fun r m l => aq_kept fc b q 1 r m l)
/-- the bits of five cells from b on -/
def aq_five (b : Nat) : Nat := (31 * 2 ^ b ||| (31 * 2 ^ b) / 65536) % 65536
noncomputable def aq_main (fc b q i m l : Nat) : Bool :=
  and (Nat.beq (aq_ck m 0 b) 4) (and (Nat.beq (aq_ck m 0 ((5 + b) % 16)) 4) (and (Nat.beq (aq_g m 60) 1) (and (Nat.beq (aq_g m 64) (aq_five b)) (and (Nat.beq (aq_ck m 1 b) 3)
  (aq_wr fc m l 1 q 256 fun r m l => and (Nat.beq r 1) (and (Nat.beq (aq_ck m 2 q) 3) (aq_mk m l 1 fun m l => aq_wr fc m l 1 q 1 fun r m l => and (Nat.beq r 1) (aq_add fc m l 1 i 1 fun r m l => and (Nat.beq r 2) (aq_back fc m l 1 fun r m l => and (Nat.beq r 2)
  (aq_rd fc m l q fun x m l => and (Nat.beq x 256) (aq_rd fc m l i fun x m l => and (Nat.beq x 0) (and (Nat.beq (aq_ck m 2 i) 3) (aq_back fc m l 1 fun r m l => and (Nat.beq r 0) (aq_back fc m l 0 fun r m l => and (Nat.beq r 20)
  (aq_rd fc m l b fun x m l => and (Nat.beq x 0) (and (Nat.beq (aq_ck m 0 b) 4) (aq_com m l 0 fun r m l => and (Nat.beq r 5) (and (Nat.beq (aq_g m 60) 0) (aq_beg m l 0 fun m l => aq_wr fc m l 0 b 393220 fun r m l => and (Nat.beq r 1)
  (aq_chk fc m l fun r m l => and (Nat.beq r 3) (aq_mid fc b q m l)))))))))))))))))))))
noncomputable def aq_a4 (fc b c : Nat) (k : Nat → Nat → Bool) (w : Nat) : Nat → Nat → Nat → Bool :=
  Nat.rec (motive := fun _ => Nat → Nat → Nat → Bool) (fun _ _ _ => false) (fun _ ih j m l => bif Nat.ble 4 j then k m l else aq_add fc m l 0 ((c + b) % 16) (1 + 65536 * j) fun r m l => and (Nat.beq r (c + 1)) (ih (j + 1) m l)) w
noncomputable def aq_a5 (fc b : Nat) (k : Nat → Nat → Bool) (w : Nat) : Nat → Nat → Nat → Bool :=
  Nat.rec (motive := fun _ => Nat → Nat → Nat → Bool) (fun _ _ _ => false) (fun _ ih c m l => bif Nat.ble 5 c then k m l else aq_a4 fc b c (fun m l => ih (c + 1) m l) 5 0 m l) w
noncomputable def aq_b3 (k : Nat → Nat → Bool) (w : Nat) : Nat → Nat → Nat → Bool :=
  Nat.rec (motive := fun _ => Nat → Nat → Nat → Bool) (fun _ _ _ => false) (fun _ ih t m l => bif Nat.ble 3 t then k m l else aq_beg m l t fun m l => bif Nat.beq (aq_g m (60 + t)) 0 then false else ih (t + 1) m l) w
noncomputable def aq_law (fc b : Nat) : Bool := aq_b3 (fun m l => aq_a5 fc b (fun m l => aq_main fc b ((9 + b) % 16) ((8 + b) % 16) m l) 6 0 m l) 4 0 0 0
end
section
theorem aq_ze (x : Nat) (k : Nat → Bool) : aq_z x k = k x := by cases x <;> rfl
theorem aq_zE {x : Nat} {k : Nat → Bool} (h : aq_z x k = true) : k x = true := by rw [aq_ze] at h; exact h
theorem aq_ifle {a b : Nat} {x y : Bool} (h : (bif Nat.ble a b then x else y) = true) : (a ≤ b ∧ x = true) ∨ (b < a ∧ y = true) := by
  cases e : Nat.ble a b with
  | true => rw [e] at h; exact Or.inl ⟨Nat.le_of_ble_eq_true e, h⟩
  | false => rw [e] at h; exact Or.inr ⟨Nat.lt_of_not_le (fun z => by rw [Nat.ble_eq_true_of_le z] at e; exact absurd e (by decide)), h⟩
theorem aq_ifeq {a b : Nat} {x y : Bool} (h : (bif Nat.beq a b then x else y) = true) : (a = b ∧ x = true) ∨ (a ≠ b ∧ y = true) := by
  cases e : Nat.beq a b with
  | true => rw [e] at h; exact Or.inl ⟨Nat.eq_of_beq_eq_true e, h⟩
  | false => rw [e] at h; exact Or.inr ⟨Nat.ne_of_beq_eq_false e, h⟩
theorem aq_and {x y : Bool} (h : and x y = true) : x = true ∧ y = true := by cases x <;> cases y <;> first | exact ⟨rfl, rfl⟩ | exact absurd h (by decide)
theorem aq_andle {a b : Nat} {y : Bool} (h : and (Nat.ble a b) y = true) : a ≤ b ∧ y = true := ⟨Nat.le_of_ble_eq_true (aq_and h).1, (aq_and h).2⟩
theorem aq_andeq {a b : Nat} {y : Bool} (h : and (Nat.beq a b) y = true) : a = b ∧ y = true := ⟨Nat.eq_of_beq_eq_true (aq_and h).1, (aq_and h).2⟩
theorem aq_if0 {a b : Nat} {y : Bool} (h : (bif Nat.beq a b then false else y) = true) : a ≠ b ∧ y = true := by
  rcases aq_ifeq h with ⟨_, z⟩ | z
  · exact absurd z (by decide)
  · exact z
theorem aq_bt {a b : Nat} {α : Type} {x y : α} (h : a = b) : (bif Nat.beq a b then x else y) = x := by rw [h, Nat.beq_refl]; rfl
theorem aq_bf {a b : Nat} {α : Type} {x y : α} (h : a ≠ b) : (bif Nat.beq a b then x else y) = y := by
  cases e : Nat.beq a b with
  | true => exact absurd (Nat.eq_of_beq_eq_true e) h
  | false => rfl
theorem aq_lt {a b : Nat} {α : Type} {x y : α} (h : a ≤ b) : (bif Nat.ble a b then x else y) = x := by rw [Nat.ble_eq_true_of_le h]; rfl
theorem aq_lf {a b : Nat} {α : Type} {x y : α} (h : b < a) : (bif Nat.ble a b then x else y) = y := by
  cases e : Nat.ble a b with
  | true => exact absurd (Nat.le_of_ble_eq_true e) (by omega)
  | false => rfl
theorem aq_allE {f : Nat → Bool} : ∀ {n : Nat}, aq_all f n = true → ∀ i, i < n → f i = true := by
  intro n
  induction n with
  | zero => intro _ i hi; exact absurd hi (by omega)
  | succ n ih =>
    intro h i hi
    obtain ⟨h1, h2⟩ := aq_and (show and (f n) (aq_all f n) = true from h)
    by_cases e : i = n
    · rw [e]; exact h1
    · exact ih h2 i (by omega)
/-! numbers -/
theorem aq_sh0 : ∀ n, n < 64 → (nI n).toInt16.toInt32 = nI n := by decide +kernel
theorem aq_by0 : ∀ n, n < 64 → (nI n).toInt8.toInt32 = nI n := by decide +kernel
theorem aq_sh {n : Nat} (h : n < 64) : (nI n).toInt16.toInt32 = nI n := aq_sh0 n h
theorem aq_by {n : Nat} (h : n < 64) : (nI n).toInt8.toInt32 = nI n := aq_by0 n h
theorem aq_ns {n : Nat} (h : n < 64) : vp_nar .short (nI n) = nI n := by rw [vp_nar_short, aq_sh h]
theorem aq_ix {f c : Nat} (h : c < 2 ^ 32) : (4 * nI f) + (nI c &&& 3) = nI (4 * f + c % 4) := by
  rw [pk_andN h 2 (by decide), show (4 : Int32) = nI 4 from rfl, pk_mul, nI_add]
theorem aq_i4 (f i : Nat) : (4 * nI f) + nI i = nI (4 * f + i) := by
  rw [show (4 : Int32) = nI 4 from rfl, pk_mul, nI_add]
theorem aq_sr2 {c : Nat} (h : c < 2 ^ 31) : nI c >>> ((2 : Int32) &&& 31) = nI (c / 4) := pk_shrN h _ 2 (by decide)
theorem aq_c {n : Nat} (h : n < 2 ^ 31) : (nI n).toNatClampNeg = n := nI_clamp h
theorem aq_p0 : aq_p 0 = -1 := rfl
theorem aq_pn {c : Nat} (h : c ≠ 0) : aq_p c = nI (c - 1) := if_neg h
theorem aq_pneg {c : Nat} (h : c < 5) : aq_p c < 0 ↔ c = 0 := by
  by_cases e : c = 0
  · rw [e, aq_p0]; exact ⟨fun _ => rfl, fun _ => by decide⟩
  · rw [aq_pn e]; exact ⟨fun z => absurd z (nI_pos (by omega)), fun z => absurd z e⟩
theorem aq_peq {c p : Nat} (h : c < 5) (hp : p < 2 ^ 24) : aq_p c = nI p ↔ c = p + 1 := by
  by_cases e : c = 0
  · rw [e, aq_p0]
    refine ⟨fun z => absurd (show nI p < 0 from z ▸ (by decide)) (nI_pos (by omega)), fun z => absurd z (by omega)⟩
  · rw [aq_pn e, nI_eq (by omega) (by omega)]
    omega
/-! contents -/
theorem aq_v0 (u v : Int32) : aq_v u v 0 = 0 := by
  show nI 0 * u + nI 0 * v + nI 0 = 0
  rw [nI_0]
  grind
theorem aq_vv (u v : Int32) : aq_v u v 256 = v := by
  show nI 0 * u + nI 1 * v + nI 0 = v
  rw [nI_0, show nI 1 = 1 from rfl]
  grind
theorem aq_vu (u v : Int32) : aq_v u v 1 = u := by
  show nI 1 * u + nI 0 * v + nI 0 = u
  rw [nI_0, show nI 1 = 1 from rfl]
  grind
theorem aq_v2 (u v : Int32) : aq_v u v 2 = u + u := by
  show nI 2 * u + nI 0 * v + nI 0 = u + u
  rw [nI_0, show nI 2 = 2 from rfl]
  grind
theorem aq_v46 (u v : Int32) : aq_v u v 393220 = (4 * u) + 6 := by
  show nI 4 * u + nI 0 * v + nI 6 = (4 * u) + 6
  rw [nI_0, show nI 4 = 4 from rfl, show nI 6 = 6 from rfl]
  grind
theorem aq_vj (u v : Int32) {j : Nat} (hj : j < 4) : aq_v u v (1 + 65536 * j) = u + nI j := by
  have e1 : (1 + 65536 * j) % 256 = 1 := by omega
  have e2 : (1 + 65536 * j) / 256 % 256 = 0 := by omega
  have e3 : (1 + 65536 * j) / 65536 = j := by omega
  unfold aq_v
  rw [e1, e2, e3, nI_0, show nI 1 = 1 from rfl]
  grind
theorem aq_vadd (u v : Int32) {x y : Nat} (h1 : x % 256 + y % 256 ≤ 255) (h2 : x / 256 % 256 + y / 256 % 256 ≤ 255) : aq_v u v (x + y) = aq_v u v x + aq_v u v y := by
  have e1 : (x + y) % 256 = x % 256 + y % 256 := by omega
  have e2 : (x + y) / 256 % 256 = x / 256 % 256 + y / 256 % 256 := by omega
  have e3 : (x + y) / 65536 = x / 65536 + y / 65536 := by omega
  unfold aq_v
  rw [e1, e2, e3, ← nI_add, ← nI_add, ← nI_add]
  generalize nI (x % 256) = p1, nI (y % 256) = p2, nI (x / 256 % 256) = p3, nI (y / 256 % 256) = p4, nI (x / 65536) = p5, nI (y / 65536) = p6
  grind
theorem aq_vlt {x y : Nat} (h1 : x % 256 + y % 256 ≤ 255) (h2 : x / 256 % 256 + y / 256 % 256 ≤ 255) (h3 : x / 65536 + y / 65536 ≤ 255) : x + y < 16777216 := by omega
/-! bits -/
theorem aq_or (a b : Nat) : nI a ||| nI b = nI (a ||| b) := by
  apply Int32.toBitVec_inj.1
  show BitVec.ofNat 32 a ||| BitVec.ofNat 32 b = BitVec.ofNat 32 (a ||| b)
  apply BitVec.eq_of_getLsbD_eq
  intro i hi
  simp [BitVec.getLsbD_or, BitVec.getLsbD_ofNat, hi]
theorem aq_sm0 : ∀ c, c < 16 → ((nI c &&& 31).toBitVec.smod 32).toNat = c := by decide +kernel
theorem aq_one0 : ∀ c, c < 16 → (1 : Int32) <<< (nI c &&& 31) = nI (2 ^ c) := by decide +kernel
theorem aq_bor {h c : Nat} (hc : c < 16) : nI h ||| ((1 : Int32) <<< (nI c &&& 31)) = nI (h ||| 2 ^ c) := by rw [aq_one0 c hc, aq_or]
theorem aq_blt {h c : Nat} (hh : h < 65536) (hc : c < 16) : h ||| 2 ^ c < 65536 := Nat.or_lt_two_pow (n := 16) hh (Nat.pow_lt_pow_right (by decide) hc)
theorem aq_bit {h c : Nat} (hh : h < 65536) (hc : c < 16) : (nI h >>> (nI c &&& 31)) &&& 1 = nI (h / 2 ^ c % 2) := by
  rw [pk_shrN (by omega) _ c (aq_sm0 c hc)]
  have : h / 2 ^ c ≤ h := Nat.div_le_self _ _
  exact pk_andN (by omega) 1 (by decide)
theorem aq_m4 : (-4 : Int32) = - nI 4 := by decide
theorem aq_m3 : (-3 : Int32) = - nI 3 := by decide
theorem aq_m2 : (-2 : Int32) = - nI 2 := by decide
end
section
set_option maxHeartbeats 0 in
theorem aq_k_1_0 : aq_law 1 0 = true := by decide +kernel
set_option maxHeartbeats 0 in
theorem aq_k_1_1 : aq_law 1 1 = true := by decide +kernel
set_option maxHeartbeats 0 in
theorem aq_k_1_2 : aq_law 1 2 = true := by decide +kernel
set_option maxHeartbeats 0 in
theorem aq_k_1_3 : aq_law 1 3 = true := by decide +kernel
set_option maxHeartbeats 0 in
theorem aq_k_1_4 : aq_law 1 4 = true := by decide +kernel
set_option maxHeartbeats 0 in
theorem aq_k_1_5 : aq_law 1 5 = true := by decide +kernel
set_option maxHeartbeats 0 in
theorem aq_k_1_6 : aq_law 1 6 = true := by decide +kernel
set_option maxHeartbeats 0 in
theorem aq_k_1_7 : aq_law 1 7 = true := by decide +kernel
set_option maxHeartbeats 0 in
theorem aq_k_1_8 : aq_law 1 8 = true := by decide +kernel
set_option maxHeartbeats 0 in
theorem aq_k_1_9 : aq_law 1 9 = true := by decide +kernel
set_option maxHeartbeats 0 in
theorem aq_k_1_10 : aq_law 1 10 = true := by decide +kernel
set_option maxHeartbeats 0 in
theorem aq_k_1_11 : aq_law 1 11 = true := by decide +kernel
set_option maxHeartbeats 0 in
theorem aq_k_1_12 : aq_law 1 12 = true := by decide +kernel
set_option maxHeartbeats 0 in
theorem aq_k_1_13 : aq_law 1 13 = true := by decide +kernel
set_option maxHeartbeats 0 in
theorem aq_k_1_14 : aq_law 1 14 = true := by decide +kernel
set_option maxHeartbeats 0 in
theorem aq_k_1_15 : aq_law 1 15 = true := by decide +kernel
set_option maxHeartbeats 0 in
theorem aq_k_2_0 : aq_law 2 0 = true := by decide +kernel
set_option maxHeartbeats 0 in
theorem aq_k_2_1 : aq_law 2 1 = true := by decide +kernel
set_option maxHeartbeats 0 in
theorem aq_k_2_2 : aq_law 2 2 = true := by decide +kernel
set_option maxHeartbeats 0 in
theorem aq_k_2_3 : aq_law 2 3 = true := by decide +kernel
set_option maxHeartbeats 0 in
theorem aq_k_2_4 : aq_law 2 4 = true := by decide +kernel
set_option maxHeartbeats 0 in
theorem aq_k_2_5 : aq_law 2 5 = true := by decide +kernel
set_option maxHeartbeats 0 in
theorem aq_k_2_6 : aq_law 2 6 = true := by decide +kernel
set_option maxHeartbeats 0 in
theorem aq_k_2_7 : aq_law 2 7 = true := by decide +kernel
set_option maxHeartbeats 0 in
theorem aq_k_2_8 : aq_law 2 8 = true := by decide +kernel
set_option maxHeartbeats 0 in
theorem aq_k_2_9 : aq_law 2 9 = true := by decide +kernel
set_option maxHeartbeats 0 in
theorem aq_k_2_10 : aq_law 2 10 = true := by decide +kernel
set_option maxHeartbeats 0 in
theorem aq_k_2_11 : aq_law 2 11 = true := by decide +kernel
set_option maxHeartbeats 0 in
theorem aq_k_2_12 : aq_law 2 12 = true := by decide +kernel
set_option maxHeartbeats 0 in
theorem aq_k_2_13 : aq_law 2 13 = true := by decide +kernel
set_option maxHeartbeats 0 in
theorem aq_k_2_14 : aq_law 2 14 = true := by decide +kernel
set_option maxHeartbeats 0 in
theorem aq_k_2_15 : aq_law 2 15 = true := by decide +kernel
set_option maxHeartbeats 0 in
theorem aq_k_3_0 : aq_law 3 0 = true := by decide +kernel
set_option maxHeartbeats 0 in
theorem aq_k_3_1 : aq_law 3 1 = true := by decide +kernel
set_option maxHeartbeats 0 in
theorem aq_k_3_2 : aq_law 3 2 = true := by decide +kernel
set_option maxHeartbeats 0 in
theorem aq_k_3_3 : aq_law 3 3 = true := by decide +kernel
set_option maxHeartbeats 0 in
theorem aq_k_3_4 : aq_law 3 4 = true := by decide +kernel
set_option maxHeartbeats 0 in
theorem aq_k_3_5 : aq_law 3 5 = true := by decide +kernel
set_option maxHeartbeats 0 in
theorem aq_k_3_6 : aq_law 3 6 = true := by decide +kernel
set_option maxHeartbeats 0 in
theorem aq_k_3_7 : aq_law 3 7 = true := by decide +kernel
set_option maxHeartbeats 0 in
theorem aq_k_3_8 : aq_law 3 8 = true := by decide +kernel
set_option maxHeartbeats 0 in
theorem aq_k_3_9 : aq_law 3 9 = true := by decide +kernel
set_option maxHeartbeats 0 in
theorem aq_k_3_10 : aq_law 3 10 = true := by decide +kernel
set_option maxHeartbeats 0 in
theorem aq_k_3_11 : aq_law 3 11 = true := by decide +kernel
set_option maxHeartbeats 0 in
theorem aq_k_3_12 : aq_law 3 12 = true := by decide +kernel
set_option maxHeartbeats 0 in
theorem aq_k_3_13 : aq_law 3 13 = true := by decide +kernel
set_option maxHeartbeats 0 in
theorem aq_k_3_14 : aq_law 3 14 = true := by decide +kernel
set_option maxHeartbeats 0 in
theorem aq_k_3_15 : aq_law 3 15 = true := by decide +kernel
theorem aq_K {fc b : Nat} (h1 : 1 ≤ fc) (h3 : fc ≤ 3) (hb : b < 16) : aq_law fc b = true := by
  have ef : fc = 1 ∨ fc = 2 ∨ fc = 3 := by omega
  have eb : b = 0 ∨ b = 1 ∨ b = 2 ∨ b = 3 ∨ b = 4 ∨ b = 5 ∨ b = 6 ∨ b = 7 ∨ b = 8 ∨ b = 9 ∨ b = 10 ∨ b = 11 ∨ b = 12 ∨ b = 13 ∨ b = 14 ∨ b = 15 := by omega
  rcases ef with rfl | rfl | rfl
  · rcases eb with rfl | rfl | rfl | rfl | rfl | rfl | rfl | rfl | rfl | rfl | rfl | rfl | rfl | rfl | rfl | rfl
    · exact aq_k_1_0
    · exact aq_k_1_1
    · exact aq_k_1_2
    · exact aq_k_1_3
    · exact aq_k_1_4
    · exact aq_k_1_5
    · exact aq_k_1_6
    · exact aq_k_1_7
    · exact aq_k_1_8
    · exact aq_k_1_9
    · exact aq_k_1_10
    · exact aq_k_1_11
    · exact aq_k_1_12
    · exact aq_k_1_13
    · exact aq_k_1_14
    · exact aq_k_1_15
  · rcases eb with rfl | rfl | rfl | rfl | rfl | rfl | rfl | rfl | rfl | rfl | rfl | rfl | rfl | rfl | rfl | rfl
    · exact aq_k_2_0
    · exact aq_k_2_1
    · exact aq_k_2_2
    · exact aq_k_2_3
    · exact aq_k_2_4
    · exact aq_k_2_5
    · exact aq_k_2_6
    · exact aq_k_2_7
    · exact aq_k_2_8
    · exact aq_k_2_9
    · exact aq_k_2_10
    · exact aq_k_2_11
    · exact aq_k_2_12
    · exact aq_k_2_13
    · exact aq_k_2_14
    · exact aq_k_2_15
  · rcases eb with rfl | rfl | rfl | rfl | rfl | rfl | rfl | rfl | rfl | rfl | rfl | rfl | rfl | rfl | rfl | rfl
    · exact aq_k_3_0
    · exact aq_k_3_1
    · exact aq_k_3_2
    · exact aq_k_3_3
    · exact aq_k_3_4
    · exact aq_k_3_5
    · exact aq_k_3_6
    · exact aq_k_3_7
    · exact aq_k_3_8
    · exact aq_k_3_9
    · exact aq_k_3_10
    · exact aq_k_3_11
    · exact aq_k_3_12
    · exact aq_k_3_13
    · exact aq_k_3_14
    · exact aq_k_3_15
end
section
theorem aq_W_tr {post : Int32 → Prop} {U : St2} {t : Nat} (ht : t < 3) (h : post 1) : wpX_isTransaction post U (nI t) := by
  obtain ⟨f1, f2, f3, f4, f5, f6, a1, a2, a3, a4, a5, a6, a7, a8, a9, a10, a11, a12, a13, a14, a15, a16, a17, a18, a19, a20⟩ := U
  exact br_f (nI_pos (by omega)) (br_f (nI_nlt (a := 2) (b := t) (by omega) (by omega)) h)
theorem aq_W_app {post : St2 → Prop} {u v p3 p4 p5 : Int32} {fc m l kd t c o x q : Nat} {U : St2} {k : Nat → Nat → Bool} (h : aq_app m l kd t c o x q k = true) (hR : aq_R u v fc m l U) (hkd : kd < 4) (ht : t < 3) (hc : c < 16) (ho : o < 16777216) (hx : x < 16777216) (hq : q < 64) (g3 : p3 = aq_v u v o) (g4 : p4 = aq_v u v x) (g5 : p5 = nI q)
    (hk : ∀ m' l' U', k m' l' = true → aq_R u v fc m' l' U' → post U') : wpX_append post U (nI kd) (nI t) (nI c) p3 p4 p5 := by
  subst g3 g4 g5
  obtain ⟨f1, f2, f3, f4, f5, f6, a1, a2, a3, a4, a5, a6, a7, a8, a9, a10, a11, a12, a13, a14, a15, a16, a17, a18, a19, a20⟩ := U
  obtain ⟨hn, h⟩ := aq_andle (aq_zE h :)
  have h := aq_zE h
  have h := aq_zE h
  have e : f3 + 1 = nI (aq_g m 2 + 1) := by rw [(aq_r_f3 hR).1, nI_1]
  have hn' : aq_g m 2 + 1 < 64 := by omega
  revert h e hn'
  generalize aq_g m 2 + 1 = n
  intro h e hn'
  have ec : (nI n).toNatClampNeg = n := aq_c (by omega)
  have et : (nI t).toNatClampNeg = t := aq_c (by omega)
  unfold wpX_append
  refine nm_r e ⟨pk_in n 301 (by omega), nm_e ⟨pk_in n 301 (by omega), nm_e ⟨pk_in n 301 (by omega), nm_e ⟨pk_in n 301 (by omega), nm_e ⟨pk_in n 301 (by omega), nm_e ⟨pk_in n 301 (by omega), nm_e ⟨pk_in t 3 ht, nm_e ?_⟩⟩⟩⟩⟩⟩⟩
  exact hk _ _ _ h (aq_w_a19 (aq_w_f3 (aq_w_a10 (aq_w_a9 (aq_w_a8 (aq_w_a7 (aq_w_a6 (aq_w_a5 hR hkd ec (aq_by (by omega))) ht ec (aq_by (by omega))) hc ec (aq_by (by omega))) ho ec rfl) hx ec rfl) hq ec (aq_sh hq)) hn' rfl) ht hn' et (aq_sh hn'))
theorem aq_W_ape {post : St2 → Prop} {u v p1 p2 : Int32} {fc m l f c x n : Nat} {U : St2} {k : Nat → Nat → Bool} (h : aq_ape m l f c x n k = true) (hR : aq_R u v fc m l U) (hf : f < 3) (hc : c < 16) (hx : x < 16777216) (hn : n < 64) (g1 : p1 = nI c) (g2 : p2 = aq_v u v x)
    (hk : ∀ m' l' U', k m' l' = true → aq_R u v fc m' l' U' → post U') : wpX_applyEntry post U (nI f) p1 p2 (nI n) := by
  subst g1 g2
  obtain ⟨f1, f2, f3, f4, f5, f6, a1, a2, a3, a4, a5, a6, a7, a8, a9, a10, a11, a12, a13, a14, a15, a16, a17, a18, a19, a20⟩ := U
  have e : (4 * nI f) + (nI c &&& 3) = nI (4 * f + c % 4) := aq_ix (by omega)
  have ec : ((4 * nI f) + (nI c &&& 3)).toNatClampNeg = 4 * f + c % 4 := by rw [e]; exact aq_c (by omega)
  have ef : (nI f).toNatClampNeg = f := aq_c (by omega)
  have e15 := aq_r_a15 hR f hf
  unfold wpX_applyEntry
  refine ⟨pk_in (4 * f + c % 4) 12 (by omega) e, nm_e ⟨pk_in f 3 hf, nm_e ⟨pk_in f 3 hf, ?_⟩⟩⟩
  rcases aq_ifeq h with ⟨z, h⟩ | ⟨z, h⟩
  · refine br_t (by rw [ef, e15.1, z]; rfl) ⟨pk_in f 3 hf, nm_e ?_⟩
    exact hk _ _ _ (aq_zE h :) (aq_w_a15 (aq_w_a14 (aq_w_a13 hR (by omega) hx ec rfl) hf hn ef (aq_sh hn)) hf hn ef (aq_sh hn))
  · refine br_f (by rw [ef, e15.1]; exact nI_ne0 (by omega) (by omega)) ?_
    exact hk _ _ _ (aq_zE h :) (aq_w_a14 (aq_w_a13 hR (by omega) hx ec rfl) hf hn ef (aq_sh hn))
theorem aq_W_ap {post : St2 → Prop} {u v p1 p2 : Int32} {fc m l f c x : Nat} {U : St2} {k : Nat → Nat → Bool} (h : aq_ape m l f c x (aq_g m 2) k = true) (hR : aq_R u v fc m l U) (hf : f < 3) (hc : c < 16) (hx : x < 16777216) (g1 : p1 = nI c) (g2 : p2 = aq_v u v x)
    (hk : ∀ m' l' U', k m' l' = true → aq_R u v fc m' l' U' → post U') : wpX_apply post U (nI f) p1 p2 := by
  obtain ⟨f1, f2, f3, f4, f5, f6, a1, a2, a3, a4, a5, a6, a7, a8, a9, a10, a11, a12, a13, a14, a15, a16, a17, a18, a19, a20⟩ := U
  have e := aq_r_f3 hR
  unfold wpX_apply
  dsimp only
  rw [e.1]
  rw [e.1] at hR
  refine aq_W_ape h hR hf hc hx e.2 g1 g2 (fun m' l' U' h' hR' => ?_)
  obtain ⟨f1x, f2x, f3x, f4x, f5x, f6x, a1x, a2x, a3x, a4x, a5x, a6x, a7x, a8x, a9x, a10x, a11x, a12x, a13x, a14x, a15x, a16x, a17x, a18x, a19x, a20x⟩ := U'
  exact hk _ _ _ h' hR'
theorem aq_W_wp51 {post : St2 → Prop} {u v : Int32} {fc m l f p : Nat} {f1 f2 f3 f4 f5 f6 : Int32} {a1 a2 a3 a4 a5 a6 a7 a8 a9 a10 a11 a12 a13 a14 a15 a16 a17 a18 a19 a20 : Nat → Int32} (hR : aq_R u v fc m l (f1, f2, f3, f4, f5, f6, a1, a2, a3, a4, a5, a6, a7, a8, a9, a10, a11, a12, a13, a14, a15, a16, a17, a18, a19, a20)) (hf : f < 3) (hp : p < 4)
    (hk : ∀ U', aq_R u v fc (aq_s (aq_s (aq_cp m 40 (4 * f) 8 (4 * p) 4) (24 + p) (aq_g (aq_cp m 40 (4 * f) 8 (4 * p) 4) (52 + f))) (56 + f) 0) l U' → post U') : ∃ n, wX_writePage_51 post (nI f) (nI p) f1 f2 f3 f4 f5 f6 n 0 a1 a2 a3 a4 a5 a6 a7 a8 a9 a10 a11 a12 a13 a14 a15 a16 a17 a18 a19 a20 :=
  pk_loop (fun n i s => wX_writePage_51 post (nI f) (nI p) f1 f2 f3 f4 f5 f6 n (nI i) s a2 a3 a4 a5 a6 a7 a8 a9 a10 a11 a12 a13 a14 a15 a16 a17 a18 a19 a20) (fun i s => aq_R u v fc (aq_cp m 40 (4 * f) 8 (4 * p) i) l (f1, f2, f3, f4, f5, f6, s, a2, a3, a4, a5, a6, a7, a8, a9, a10, a11, a12, a13, a14, a15, a16, a17, a18, a19, a20)) 4 0 a1 (by omega) hR
    (fun n s h => pk_le 4 4 (fun _ => ⟨pk_in f 3 hf, pk_in p 4 hp, nm_e ⟨pk_in f 3 hf, nm_e (hk _ (aq_w_a15 (aq_w_a2 h hp (aq_r_a14 h f hf).2 (aq_c (by omega)) (by rw [aq_c (by omega), (aq_r_a14 h f hf).1]; exact aq_ns (aq_r_a14 h f hf).2)) hf (by omega) (aq_c (by omega)) rfl))⟩⟩) (fun z => absurd z (by omega)))
    (fun n i s hi h hw => pk_le 4 i (fun z => absurd z (by omega)) (fun _ => ⟨pk_in (4 * f + i) 12 (by omega) (aq_i4 f i), pk_in (4 * p + i) 16 (by omega) (aq_i4 p i), nm_e (nm_r (nI_1 i) (hw _ (aq_w_a1 h (by omega) (aq_g_lt _ _) (by rw [aq_i4]; exact aq_c (by omega)) (by rw [aq_i4, aq_c (by omega)]; exact (aq_r_a13 h (4 * f + i) (by omega)).1))))⟩))
theorem aq_W_wp {post : St2 → Prop} {u v : Int32} {fc m l f : Nat} {U : St2} {k : Nat → Nat → Bool} (h : aq_wp m l f k = true) (hR : aq_R u v fc m l U) (hf : f < 3)
    (hk : ∀ m' l' U', k m' l' = true → aq_R u v fc m' l' U' → post U') : wpX_writePage post U (nI f) := by
  obtain ⟨f1, f2, f3, f4, f5, f6, a1, a2, a3, a4, a5, a6, a7, a8, a9, a10, a11, a12, a13, a14, a15, a16, a17, a18, a19, a20⟩ := U
  have ef : (nI f).toNatClampNeg = f := aq_c (by omega)
  have e12 := aq_r_a12 hR f hf
  have e14 := aq_r_a14 hR f hf
  have e15 := aq_r_a15 hR f hf
  have e1 := aq_r_f1 hR
  unfold wpX_writePage
  refine ⟨pk_in f 3 hf, ?_⟩
  rw [ef]
  rcases aq_ifeq h with ⟨z, h⟩ | ⟨z, h⟩
  · exact br_t (by rw [e12.1]; exact (aq_pneg e12.2).mpr z) (hk _ _ _ h hR)
  refine br_f (by rw [e12.1, aq_pneg e12.2]; exact z) ⟨pk_in f 3 hf, ?_⟩
  rcases aq_ifeq h with ⟨z2, h⟩ | ⟨z2, h⟩
  · exact br_t (by rw [e15.1, z2]; rfl) (hk _ _ _ h hR)
  refine br_f (by rw [e15.1]; exact nI_ne0 (by omega) (by omega)) ⟨pk_in f 3 hf, ?_⟩
  have h := aq_zE h
  have h := aq_zE h
  have h := aq_zE h
  have h := aq_zE h
  have ep : a12 f = nI (aq_g m (36 + f) - 1) := by rw [e12.1, aq_pn z]
  refine pk_le (aq_g m (52 + f)) (aq_g m 0) (fun w => ⟨pk_in f 3 hf, nm_r ep ?_⟩) (fun w => ⟨pk_in f 3 hf, nm_e ⟨pk_in f 3 hf, nm_r ep ?_⟩⟩) e14.1 e1.1
  · rw [aq_lt w] at h
    exact aq_W_wp51 hR hf (by omega) (fun U' hR' => hk _ _ _ h hR')
  · rw [aq_lf w] at h
    exact aq_W_wp51 (aq_w_f1 hR e14.2 e14.1) hf (by omega) (fun U' hR' => hk _ _ _ h hR')
theorem aq_W_br75 {post : Int32 → St2 → Prop} {u v : Int32} {fc m l f p : Nat} {f1 f2 f3 f4 f5 f6 : Int32} {a1 a2 a3 a4 a5 a6 a7 a8 a9 a10 a11 a12 a13 a14 a15 a16 a17 a18 a19 a20 : Nat → Int32} (hR : aq_R u v fc m l (f1, f2, f3, f4, f5, f6, a1, a2, a3, a4, a5, a6, a7, a8, a9, a10, a11, a12, a13, a14, a15, a16, a17, a18, a19, a20)) (hf : f < 3) (hp : p < 4)
    (hk : ∀ U', aq_R u v fc (aq_s (aq_s (aq_cp m 8 (4 * p) 40 (4 * f) 4) (52 + f) (aq_g (aq_cp m 8 (4 * p) 40 (4 * f) 4) (24 + p))) (56 + f) 0) l U' → post (nI f) U') : ∃ n, wX_bringIn_75 post (nI p) (nI f) f1 f2 f3 f4 f5 f6 n 0 a1 a2 a3 a4 a5 a6 a7 a8 a9 a10 a11 a12 a13 a14 a15 a16 a17 a18 a19 a20 :=
  pk_loop (fun n i s => wX_bringIn_75 post (nI p) (nI f) f1 f2 f3 f4 f5 f6 n (nI i) a1 a2 a3 a4 a5 a6 a7 a8 a9 a10 a11 a12 s a14 a15 a16 a17 a18 a19 a20) (fun i s => aq_R u v fc (aq_cp m 8 (4 * p) 40 (4 * f) i) l (f1, f2, f3, f4, f5, f6, a1, a2, a3, a4, a5, a6, a7, a8, a9, a10, a11, a12, s, a14, a15, a16, a17, a18, a19, a20)) 4 0 a13 (by omega) hR
    (fun n s h => pk_le 4 4 (fun _ => ⟨pk_in p 4 hp, pk_in f 3 hf, nm_e ⟨pk_in f 3 hf, nm_e (hk _ (aq_w_a15 (aq_w_a14 h hf (aq_r_a2 h p hp).2 (aq_c (by omega)) (by rw [aq_c (by omega), (aq_r_a2 h p hp).1]; exact aq_ns (aq_r_a2 h p hp).2)) hf (by omega) (aq_c (by omega)) rfl))⟩⟩) (fun z => absurd z (by omega)))
    (fun n i s hi h hw => pk_le 4 i (fun z => absurd z (by omega)) (fun _ => ⟨pk_in (4 * p + i) 16 (by omega) (aq_i4 p i), pk_in (4 * f + i) 12 (by omega) (aq_i4 f i), nm_e (nm_r (nI_1 i) (hw _ (aq_w_a13 h (by omega) (aq_g_lt _ _) (by rw [aq_i4]; exact aq_c (by omega)) (by rw [aq_i4, aq_c (by omega)]; exact (aq_r_a1 h (4 * p + i) (by omega)).1))))⟩))
theorem aq_W_br57 {post : Int32 → St2 → Prop} {u v : Int32} {fc m l f p z : Nat} {z0 : Int32} {k : Nat → Nat → Nat → Bool} {f1 f2 f3 f4 f5 f6 : Int32} {a1 a2 a3 a4 a5 a6 a7 a8 a9 a10 a11 a12 a13 a14 a15 a16 a17 a18 a19 a20 : Nat → Int32} (hR : aq_R u v fc m l (f1, f2, f3, f4, f5, f6, a1, a2, a3, a4, a5, a6, a7, a8, a9, a10, a11, a12, a13, a14, a15, a16, a17, a18, a19, a20)) (hf : f < 3) (hp : p < 4) (hz : z < 3) (hz0 : z0 = nI z) (h : aq_wp (aq_s m 3 z) l f (aq_ev2 f p k) = true)
    (hk : ∀ r m' l' U', k r m' l' = true → r < 3 → aq_R u v fc m' l' U' → post (nI r) U') : wX_bringIn_57 post (nI p) (nI f) z0 f1 f2 f3 f4 f5 f6 a1 a2 a3 a4 a5 a6 a7 a8 a9 a10 a11 a12 a13 a14 a15 a16 a17 a18 a19 a20 := by
  unfold wX_bringIn_57
  refine aq_W_wp h (aq_w_f5 hR hz hz0) hf (fun m' l' U' h' hR' => ?_)
  obtain ⟨f1x, f2x, f3x, f4x, f5x, f6x, a1x, a2x, a3x, a4x, a5x, a6x, a7x, a8x, a9x, a10x, a11x, a12x, a13x, a14x, a15x, a16x, a17x, a18x, a19x, a20x⟩ := U'
  have h2 := aq_zE h'
  have h2 := aq_zE h2
  refine ⟨pk_in f 3 hf, nm_e ?_⟩
  exact aq_W_br75 (aq_w_a12 hR' hf (show p + 1 < 5 by omega) (aq_c (by omega)) (by rw [aq_by (by omega), aq_pn (by omega)]; rfl)) hf hp (fun U2 hR2 => hk _ _ _ _ h2 hf hR2)
theorem aq_W_br2 {post : Int32 → St2 → Prop} {u v : Int32} {fc m l p : Nat} {k : Nat → Nat → Nat → Bool} {f1 f2 f3 f4 f5 f6 : Int32} {a1 a2 a3 a4 a5 a6 a7 a8 a9 a10 a11 a12 a13 a14 a15 a16 a17 a18 a19 a20 : Nat → Int32} (hR : aq_R u v fc m l (f1, f2, f3, f4, f5, f6, a1, a2, a3, a4, a5, a6, a7, a8, a9, a10, a11, a12, a13, a14, a15, a16, a17, a18, a19, a20)) (hp : p < 2 ^ 24)
    (hk : ∀ r m' l' U', k r m' l' = true → r < 3 → aq_R u v fc m' l' U' → post (nI r) U') : ∀ n f, aq_brL fc p m l k n f = true → f < 2 ^ 24 → wX_bringIn_2 post (nI p) f1 f2 f3 f4 f5 f6 a1 a2 a3 a4 a5 a6 a7 a8 a9 a10 a11 a12 a13 a14 a15 a16 a17 a18 a19 a20 n (nI f) := by
  intro n
  induction n with
  | zero => intro f h _; exact absurd h Bool.false_ne_true
  | succ n ih =>
    intro f h hf
    have e4 := aq_r_f4 hR
    have e5 := aq_r_f5 hR
    rcases aq_ifle h with ⟨w, h⟩ | ⟨w, h⟩
    · obtain ⟨hp4, h⟩ := aq_andle h
      have h := aq_zE h
      have h := aq_zE h
      refine br_t (by rw [e4.1]; exact nI_le w (by omega)) ?_
      have e6 : f5 + 1 = nI (aq_g m 3 + 1) := by rw [e5.1, nI_1]
      have e7 := e5.1
      refine pk_le fc (aq_g m 3 + 1) (fun w2 => ?_) (fun w2 => ?_) e4.1 e6
      · rw [aq_lt w2] at h
        have t := aq_W_br57 (post := post) (z0 := 0) hR e5.2 (show p < 4 by omega) (show 0 < 3 by decide) nI_0.symm h hk
        rw [← e7] at t
        exact t
      · rw [aq_lf w2] at h
        have t := aq_W_br57 (post := post) hR e5.2 (show p < 4 by omega) (show aq_g m 3 + 1 < 3 by omega) e6 h hk
        rw [← e7] at t
        exact t
    · refine br_f (by rw [e4.1]; exact nI_ge w (by omega)) ⟨pk_in f 3 (by omega), ?_⟩
      have e12 := aq_r_a12 hR f (by omega)
      rcases aq_ifeq h with ⟨w2, h⟩ | ⟨w2, h⟩
      · refine br_t (by rw [aq_c (by omega), e12.1, aq_peq e12.2 hp]; exact w2) ?_
        exact hk _ _ _ _ h (by omega) hR
      · refine br_f (by rw [aq_c (by omega), e12.1, aq_peq e12.2 hp]; exact w2) ?_
        exact nm_r (nI_1 f) (ih (f + 1) h (by omega))
theorem aq_W_br {post : Int32 → St2 → Prop} {u v p0 : Int32} {fc m l p : Nat} {U : St2} {k : Nat → Nat → Nat → Bool} (h : aq_br fc m l p k = true) (hR : aq_R u v fc m l U) (hp : p < 2 ^ 24) (g0 : p0 = nI p)
    (hk : ∀ r m' l' U', k r m' l' = true → r < 3 → aq_R u v fc m' l' U' → post (nI r) U') : wpX_bringIn post U p0 := by
  subst g0
  obtain ⟨f1, f2, f3, f4, f5, f6, a1, a2, a3, a4, a5, a6, a7, a8, a9, a10, a11, a12, a13, a14, a15, a16, a17, a18, a19, a20⟩ := U
  exact ⟨4, aq_W_br2 hR hp hk 4 0 h (by omega)⟩
theorem aq_W_rd {post : Int32 → St2 → Prop} {u v : Int32} {fc m l c : Nat} {U : St2} {k : Nat → Nat → Nat → Bool} (h : aq_rd fc m l c k = true) (hR : aq_R u v fc m l U) (hc : c < 16)
    (hk : ∀ x m' l' U', k x m' l' = true → x < 16777216 → aq_R u v fc m' l' U' → post (aq_v u v x) U') : wpX_read post U (nI c) := by
  obtain ⟨f1, f2, f3, f4, f5, f6, a1, a2, a3, a4, a5, a6, a7, a8, a9, a10, a11, a12, a13, a14, a15, a16, a17, a18, a19, a20⟩ := U
  unfold wpX_read
  refine br_f (nI_pos (by omega)) (br_t (nI_le (b := 15) (by omega) (by omega)) ?_)
  refine aq_W_br h hR (show c / 4 < 2 ^ 24 by omega) (aq_sr2 (by omega)) (fun r m' l' U' h' hr hR' => ?_)
  obtain ⟨f1x, f2x, f3x, f4x, f5x, f6x, a1x, a2x, a3x, a4x, a5x, a6x, a7x, a8x, a9x, a10x, a11x, a12x, a13x, a14x, a15x, a16x, a17x, a18x, a19x, a20x⟩ := U'
  have e : (4 * nI r) + (nI c &&& 3) = nI (4 * r + c % 4) := aq_ix (by omega)
  refine ⟨pk_in (4 * r + c % 4) 12 (by omega) e, ?_⟩
  have e13 := aq_r_a13 hR' (4 * r + c % 4) (by omega)
  rw [e, aq_c (by omega), e13.1]
  exact hk _ _ _ _ (aq_zE h' :) e13.2 hR'
theorem aq_W_ckL {post : Int32 → Prop} {u v : Int32} {fc m l t c : Nat} {f1 f2 f3 f4 f5 f6 : Int32} {a1 a2 a3 a4 a5 a6 a7 a8 a9 a10 a11 a12 a13 a14 a15 a16 a17 a18 a19 a20 : Nat → Int32} (hR : aq_R u v fc m l (f1, f2, f3, f4, f5, f6, a1, a2, a3, a4, a5, a6, a7, a8, a9, a10, a11, a12, a13, a14, a15, a16, a17, a18, a19, a20)) (ht : t < 3) (hc : c < 16) : ∀ n w, w ≤ 3 → 3 < n + w → post (- nI (aq_ckL m t c n w)) → wX_check_34 post (nI t) (nI c) f1 f2 f3 f4 f5 f6 a1 a2 a3 a4 a5 a6 a7 a8 a9 a10 a11 a12 a13 a14 a15 a16 a17 a18 a19 a20 n (nI w) := by
  intro n
  induction n with
  | zero => intro w h1 h2 _; exact absurd h2 (by omega)
  | succ n ih =>
    intro w hw hn hp
    have e : aq_ckL m t c (n + 1) w = (bif Nat.ble 3 w then (bif Nat.ble 20 (aq_g m (68 + t)) then 4 else 0) else bif Nat.beq w t then aq_ckL m t c n (w + 1) else bif Nat.beq (aq_g m (60 + w)) 0 then aq_ckL m t c n (w + 1) else bif Nat.beq (aq_g m (64 + w) / 2 ^ c % 2) 0 then aq_ckL m t c n (w + 1) else 3) := rfl
    rw [e] at hp
    clear e
    refine pk_le 3 w (fun z => ⟨pk_in t 3 ht, ?_⟩) (fun z => ?_)
    · rw [aq_lt z] at hp
      have e18 := aq_r_a18 hR t ht
      rw [aq_c (by omega), e18.1]
      refine pk_lt (aq_g m (68 + t)) 20 (fun y => ?_) (fun y => ?_)
      · rw [aq_lf y] at hp; exact hp
      · rw [aq_lt y] at hp; exact hp
    · rw [aq_lf z] at hp
      refine pk_eq w t (fun y => ?_) (fun y => ?_)
      · rw [aq_bt y] at hp
        exact nm_r (nI_1 w) (ih (w + 1) (by omega) (by omega) hp)
      · rw [aq_bf y] at hp
        have e16 := aq_r_a16 hR w (by omega)
        have e17 := aq_r_a17 hR w (by omega)
        rw [aq_c (show w < 2 ^ 31 by omega), e16.1, e17.1]
        refine ⟨pk_in w 3 (by omega), pk_eq (aq_g m (60 + w)) 0 (fun y => ?_) (fun y => ⟨pk_in w 3 (by omega), ?_⟩)⟩
        · rw [aq_bt y] at hp
          exact nm_r (nI_1 w) (ih (w + 1) (by omega) (by omega) hp)
        · rw [aq_bf y] at hp
          rw [aq_bit e17.2 hc]
          refine pk_eq (aq_g m (64 + w) / 2 ^ c % 2) 0 (fun y => ?_) (fun y => ?_)
          · rw [aq_bt y] at hp
            exact nm_r (nI_1 w) (ih (w + 1) (by omega) (by omega) hp)
          · rw [aq_bf y] at hp; exact hp
theorem aq_W_ck {post : Int32 → Prop} {u v : Int32} {fc m l t c : Nat} {U : St2} (hR : aq_R u v fc m l U) (ht : t < 3) (hc : c < 16) (hp : post (- nI (aq_ck m t c))) : wpX_check post U (nI t) (nI c) := by
  obtain ⟨f1, f2, f3, f4, f5, f6, a1, a2, a3, a4, a5, a6, a7, a8, a9, a10, a11, a12, a13, a14, a15, a16, a17, a18, a19, a20⟩ := U
  unfold wpX_check
  refine aq_W_tr ht (br_f (by decide) (br_f (nI_pos (by omega)) (br_t (nI_le (b := 15) (by omega) (by omega)) ⟨pk_in t 3 ht, ?_⟩)))
  have e16 := aq_r_a16 hR t ht
  rw [aq_c (by omega), e16.1]
  refine pk_eq (aq_g m (60 + t)) 0 (fun z => ?_) (fun z => ?_)
  · rw [show aq_ck m t c = 2 from aq_bt z] at hp; exact hp
  · rw [show aq_ck m t c = aq_ckL m t c 4 0 from aq_bf z] at hp
    exact ⟨4, aq_W_ckL hR ht hc 4 0 (by omega) (by omega) hp⟩
theorem aq_W_bits {post : Int32 → Prop} {p0 : Int32} {U : St2} {h : Nat} (hh : h < 65536) (g0 : p0 = nI h) (hp : post (nI (aq_bits h 16))) : wpX_bitsIn post U p0 := by
  subst g0
  obtain ⟨f1, f2, f3, f4, f5, f6, a1, a2, a3, a4, a5, a6, a7, a8, a9, a10, a11, a12, a13, a14, a15, a16, a17, a18, a19, a20⟩ := U
  exact pk_loop (σ := Unit) (fun n i _ => wX_bitsIn_4 post (nI h) f1 f2 f3 f4 f5 f6 a1 a2 a3 a4 a5 a6 a7 a8 a9 a10 a11 a12 a13 a14 a15 a16 a17 a18 a19 a20 n (nI (aq_bits h i)) (nI i)) (fun _ _ => True) 16 0 () (by omega) trivial
    (fun n _ _ => pk_le 16 16 (fun _ => hp) (fun z => absurd z (by omega)))
    (fun n i _ hi _ hw => pk_le 16 i (fun z => absurd z (by omega)) (fun _ => nm_r (by rw [aq_bit hh hi, nI_add, ← Nat.shiftRight_eq_div_pow]; rfl) (nm_r (nI_1 i) (hw () trivial))))
theorem aq_W_mr {post : St2 → Prop} {u v : Int32} {fc m l : Nat} {U : St2} (hR : aq_R u v fc m l U) (h : post U) : wpX_makeRoom post U := by
  obtain ⟨f1, f2, f3, f4, f5, f6, a1, a2, a3, a4, a5, a6, a7, a8, a9, a10, a11, a12, a13, a14, a15, a16, a17, a18, a19, a20⟩ := U
  have e := aq_r_f3 hR
  exact br_f (by rw [e.1]; exact nI_nlt (a := 180) (by omega) (by omega)) h
theorem aq_W_ch {post : Int32 → St2 → Prop} {u v p2 : Int32} {fc m l t c x : Nat} {U : St2} {k : Nat → Nat → Nat → Bool} (h : aq_ch fc m l t c x k = true) (hR : aq_R u v fc m l U) (ht : t < 3) (hc : c < 16) (hx : x < 16777216) (g2 : p2 = aq_v u v x)
    (hk : ∀ r m' l' U', k r m' l' = true → aq_R u v fc m' l' U' → post (nI r) U') : wpX_change post U (nI t) (nI c) p2 := by
  obtain ⟨f1, f2, f3, f4, f5, f6, a1, a2, a3, a4, a5, a6, a7, a8, a9, a10, a11, a12, a13, a14, a15, a16, a17, a18, a19, a20⟩ := U
  have et : (nI t).toNatClampNeg = t := aq_c (by omega)
  unfold wpX_change
  refine aq_W_mr hR ?_
  refine aq_W_br h hR (show c / 4 < 2 ^ 24 by omega) (aq_sr2 (by omega)) (fun f m1 l1 U1 h1 hf hR1 => ?_)
  obtain ⟨f1x, f2x, f3x, f4x, f5x, f6x, a1x, a2x, a3x, a4x, a5x, a6x, a7x, a8x, a9x, a10x, a11x, a12x, a13x, a14x, a15x, a16x, a17x, a18x, a19x, a20x⟩ := U1
  have e : (4 * nI f) + (nI c &&& 3) = nI (4 * f + c % 4) := aq_ix (by omega)
  have e13 := aq_r_a13 hR1 (4 * f + c % 4) (by omega)
  have e19 := aq_r_a19 hR1 t ht
  refine ⟨pk_in (4 * f + c % 4) 12 (by omega) e, nm_e ⟨pk_in t 3 ht, ?_⟩⟩
  refine aq_W_app (kd := 0) h1 hR1 (by decide) ht hc (aq_g_lt _ _) hx e19.2 (by rw [e, aq_c (by omega)]; exact e13.1) g2 (by rw [et]; exact e19.1) (fun m2 l2 U2 h2 hR2 => ?_)
  obtain ⟨f1y, f2y, f3y, f4y, f5y, f6y, a1y, a2y, a3y, a4y, a5y, a6y, a7y, a8y, a9y, a10y, a11y, a12y, a13y, a14y, a15y, a16y, a17y, a18y, a19y, a20y⟩ := U2
  refine aq_W_ap h2 hR2 hf hc hx rfl g2 (fun m3 l3 U3 h3 hR3 => ?_)
  obtain ⟨f1z, f2z, f3z, f4z, f5z, f6z, a1z, a2z, a3z, a4z, a5z, a6z, a7z, a8z, a9z, a10z, a11z, a12z, a13z, a14z, a15z, a16z, a17z, a18z, a19z, a20z⟩ := U3
  obtain ⟨hb, h4⟩ := aq_andle (aq_zE h3 :)
  have h4 := aq_zE h4
  have h4 := aq_zE h4
  have e17 := aq_r_a17 hR3 t ht
  have hR4 := aq_w_a17 (i := t) (j := (nI t).toNatClampNeg) (y := a17z (nI t).toNatClampNeg ||| ((1 : Int32) <<< (nI c &&& 31))) hR3 ht (aq_blt e17.2 hc) et (by rw [et, e17.1]; exact aq_bor hc)
  have e18 := aq_r_a18 hR4 t ht
  have hR5 := aq_w_a18 (i := t) (j := (nI t).toNatClampNeg) (y := (a18z (nI t).toNatClampNeg + 1).toInt8.toInt32) hR4 ht (Nat.lt_of_le_of_lt (Nat.succ_le_succ hb) (by decide)) et (by rw [et, e18.1, nI_1]; exact aq_by (Nat.lt_of_le_of_lt (Nat.succ_le_succ hb) (by decide)))
  have e17' := aq_r_a17 hR5 t ht
  refine ⟨pk_in t 3 ht, pk_in t 3 ht, nm_e ⟨pk_in t 3 ht, pk_in t 3 ht, nm_e ⟨pk_in t 3 ht, ?_⟩⟩⟩
  exact aq_W_bits e17'.2 (by rw [et]; rw [et] at e17'; exact e17'.1) (hk _ _ _ _ h4 hR5)
theorem aq_W_wr {post : Int32 → St2 → Prop} {u v p2 : Int32} {fc m l t c x : Nat} {U : St2} {k : Nat → Nat → Nat → Bool} (h : aq_wr fc m l t c x k = true) (hR : aq_R u v fc m l U) (ht : t < 3) (hc : c < 16) (hx : x < 16777216) (g2 : p2 = aq_v u v x)
    (hk : ∀ r m' l' U', k r m' l' = true → aq_R u v fc m' l' U' → post (nI r) U') : wpX_write post U (nI t) (nI c) p2 := by
  obtain ⟨f1, f2, f3, f4, f5, f6, a1, a2, a3, a4, a5, a6, a7, a8, a9, a10, a11, a12, a13, a14, a15, a16, a17, a18, a19, a20⟩ := U
  obtain ⟨e, h⟩ := aq_andeq h
  unfold wpX_write
  refine aq_W_ck hR ht hc ?_
  rw [e]
  refine br_t (by decide) ?_
  refine aq_W_ch h hR ht hc hx g2 (fun r m' l' U' h' hR' => ?_)
  obtain ⟨f1x, f2x, f3x, f4x, f5x, f6x, a1x, a2x, a3x, a4x, a5x, a6x, a7x, a8x, a9x, a10x, a11x, a12x, a13x, a14x, a15x, a16x, a17x, a18x, a19x, a20x⟩ := U'
  exact hk _ _ _ _ h' hR'
theorem aq_W_wrb {post : Int32 → St2 → Prop} {u v x : Int32} {fc m l t c e : Nat} {U : St2} (h : aq_ck m t c = e) (h0 : ¬ - nI e = 0) (hR : aq_R u v fc m l U) (ht : t < 3) (hc : c < 16) (hp : post (- nI e) U) : wpX_write post U (nI t) (nI c) x := by
  obtain ⟨f1, f2, f3, f4, f5, f6, a1, a2, a3, a4, a5, a6, a7, a8, a9, a10, a11, a12, a13, a14, a15, a16, a17, a18, a19, a20⟩ := U
  unfold wpX_write
  refine aq_W_ck hR ht hc ?_
  rw [h]
  exact br_f h0 hp
theorem aq_W_add {post : Int32 → St2 → Prop} {u v p2 : Int32} {fc m l t c x : Nat} {U : St2} {k : Nat → Nat → Nat → Bool} (h : aq_add fc m l t c x k = true) (hR : aq_R u v fc m l U) (ht : t < 3) (hc : c < 16) (g2 : p2 = aq_v u v x)
    (hk : ∀ r m' l' U', k r m' l' = true → aq_R u v fc m' l' U' → post (nI r) U') : wpX_add post U (nI t) (nI c) p2 := by
  subst g2
  obtain ⟨f1, f2, f3, f4, f5, f6, a1, a2, a3, a4, a5, a6, a7, a8, a9, a10, a11, a12, a13, a14, a15, a16, a17, a18, a19, a20⟩ := U
  obtain ⟨e, h⟩ := aq_andeq h
  unfold wpX_add
  refine aq_W_ck hR ht hc ?_
  rw [e]
  refine br_t (by decide) ?_
  refine aq_W_rd h hR hc (fun y m1 l1 U1 h1 hy hR1 => ?_)
  obtain ⟨f1x, f2x, f3x, f4x, f5x, f6x, a1x, a2x, a3x, a4x, a5x, a6x, a7x, a8x, a9x, a10x, a11x, a12x, a13x, a14x, a15x, a16x, a17x, a18x, a19x, a20x⟩ := U1
  obtain ⟨g1, h1⟩ := aq_andle h1
  obtain ⟨g2, h1⟩ := aq_andle h1
  obtain ⟨g3, h1⟩ := aq_andle h1
  refine nm_e ?_
  refine aq_W_ch (aq_zE h1 :) hR1 ht hc (aq_vlt g1 g2 g3) (aq_vadd u v g1 g2).symm (fun r m' l' U' h' hR' => ?_)
  obtain ⟨f1y, f2y, f3y, f4y, f5y, f6y, a1y, a2y, a3y, a4y, a5y, a6y, a7y, a8y, a9y, a10y, a11y, a12y, a13y, a14y, a15y, a16y, a17y, a18y, a19y, a20y⟩ := U'
  exact hk _ _ _ _ h' hR'
theorem aq_W_ho {post : Int32 → Prop} {u v : Int32} {fc m l t : Nat} {U : St2} (hR : aq_R u v fc m l U) (ht : t < 3) (h0 : aq_g m (60 + t) = 0 → post 0) (h1 : aq_g m (60 + t) ≠ 0 → post (nI (aq_g m (64 + t)))) : wpX_holds post U (nI t) := by
  obtain ⟨f1, f2, f3, f4, f5, f6, a1, a2, a3, a4, a5, a6, a7, a8, a9, a10, a11, a12, a13, a14, a15, a16, a17, a18, a19, a20⟩ := U
  unfold wpX_holds
  refine aq_W_tr ht (br_f (by decide) ⟨pk_in t 3 ht, ?_⟩)
  have e16 := aq_r_a16 hR t ht
  have e17 := aq_r_a17 hR t ht
  rw [aq_c (by omega), e16.1, e17.1]
  exact pk_eq (aq_g m (60 + t)) 0 h0 (fun z => ⟨pk_in t 3 ht, h1 z⟩)
theorem aq_W_mk {post : Int32 → St2 → Prop} {u v : Int32} {fc m l t : Nat} {U : St2} {k : Nat → Nat → Bool} (h : aq_mk m l t k = true) (hR : aq_R u v fc m l U) (ht : t < 3)
    (hk : ∀ m' l' U', k m' l' = true → aq_R u v fc m' l' U' → post (nI t) U') : wpX_mark post U (nI t) := by
  obtain ⟨f1, f2, f3, f4, f5, f6, a1, a2, a3, a4, a5, a6, a7, a8, a9, a10, a11, a12, a13, a14, a15, a16, a17, a18, a19, a20⟩ := U
  unfold wpX_mark
  refine aq_W_tr ht (br_f (by decide) ⟨pk_in t 3 ht, ?_⟩)
  have e16 := aq_r_a16 hR t ht
  have e19 := aq_r_a19 hR t ht
  obtain ⟨z, h⟩ := aq_if0 h
  rw [aq_c (by omega)]
  refine br_f (by rw [e16.1]; exact nI_ne0 (by omega) (by omega)) ⟨pk_in t 3 ht, pk_in t 3 ht, nm_e ?_⟩
  exact hk _ _ _ (aq_zE h :) (aq_w_a20 hR ht e19.2 rfl (by rw [e19.1]; exact aq_ns e19.2))
end
section
theorem aq_W_beg {post : Int32 → St2 → Prop} {u v : Int32} {fc m l t : Nat} {U : St2} {k : Nat → Nat → Bool} (h : aq_beg m l t k = true) (hR : aq_R u v fc m l U) (ht : t < 3)
    (hk : ∀ m' l' U', k m' l' = true → aq_R u v fc m' l' U' → post (nI t) U') : wpX_begin post U (nI t) := by
  obtain ⟨f1, f2, f3, f4, f5, f6, a1, a2, a3, a4, a5, a6, a7, a8, a9, a10, a11, a12, a13, a14, a15, a16, a17, a18, a19, a20⟩ := U
  have et : (nI t).toNatClampNeg = t := aq_c (by omega)
  have e16 := aq_r_a16 hR t ht
  obtain ⟨z, h⟩ := aq_andeq h
  unfold wpX_begin
  refine aq_W_tr ht (br_f (by decide) ⟨pk_in t 3 ht, ?_⟩)
  refine br_t (by rw [et, e16.1, z]; rfl) ⟨pk_in t 3 ht, nm_e ⟨pk_in t 3 ht, nm_e ⟨pk_in t 3 ht, nm_e ⟨pk_in t 3 ht, nm_e ⟨pk_in t 3 ht, nm_e ?_⟩⟩⟩⟩⟩
  exact hk _ _ _ (aq_zE h :) (aq_w_a20 (aq_w_a19 (aq_w_a18 (aq_w_a17 (aq_w_a16 hR ht (by decide) et rfl) ht (by decide) et rfl) ht (by decide) et rfl) ht (by decide) et rfl) ht (by decide) et rfl)
theorem aq_W_begh {post : Int32 → St2 → Prop} {u v : Int32} {fc m l t : Nat} {U : St2} (z : aq_g m (60 + t) ≠ 0) (hR : aq_R u v fc m l U) (ht : t < 3) (hp : post (-3) U) : wpX_begin post U (nI t) := by
  obtain ⟨f1, f2, f3, f4, f5, f6, a1, a2, a3, a4, a5, a6, a7, a8, a9, a10, a11, a12, a13, a14, a15, a16, a17, a18, a19, a20⟩ := U
  have et : (nI t).toNatClampNeg = t := aq_c (by omega)
  have e16 := aq_r_a16 hR t ht
  unfold wpX_begin
  refine aq_W_tr ht (br_f (by decide) ⟨pk_in t 3 ht, ?_⟩)
  exact br_f (by rw [et, e16.1]; exact nI_ne0 (by omega) (by omega)) hp
theorem aq_W_ue {post : St2 → Prop} {u v : Int32} {fc m l n t : Nat} {U : St2} {k : Nat → Nat → Bool} (h : aq_ue fc m l n t k = true) (hR : aq_R u v fc m l U) (hn : n < 64) (ht : t < 3)
    (hk : ∀ m' l' U', k m' l' = true → aq_R u v fc m' l' U' → post U') : wpX_undoEntry post U (nI n) (nI t) := by
  obtain ⟨f1, f2, f3, f4, f5, f6, a1, a2, a3, a4, a5, a6, a7, a8, a9, a10, a11, a12, a13, a14, a15, a16, a17, a18, a19, a20⟩ := U
  have en : (nI n).toNatClampNeg = n := aq_c (by omega)
  have e7 := aq_r_a7 hR n hn
  have h := aq_zE h
  have hc := e7.2
  unfold wpX_undoEntry
  refine ⟨pk_in n 301 (by omega), nm_r (show a7 (nI n).toNatClampNeg = nI (aq_g l (8 * n + 2)) by rw [en]; exact e7.1) ?_⟩
  refine aq_W_br h hR (show aq_g l (8 * n + 2) / 4 < 2 ^ 24 by omega) (aq_sr2 (by omega)) (fun f m1 l1 U1 h1 hf hR1 => ?_)
  obtain ⟨f1x, f2x, f3x, f4x, f5x, f6x, a1x, a2x, a3x, a4x, a5x, a6x, a7x, a8x, a9x, a10x, a11x, a12x, a13x, a14x, a15x, a16x, a17x, a18x, a19x, a20x⟩ := U1
  have e8 := aq_r_a8 hR1 n hn
  have e10 := aq_r_a10 hR1 n hn
  refine ⟨pk_in n 301 (by omega), pk_in n 301 (by omega), ?_⟩
  refine aq_W_app (kd := 1) h1 hR1 (by decide) ht hc (by decide) (aq_g_lt _ _) e10.2 (aq_v0 u v).symm (by rw [en]; exact e8.1) (by rw [en]; exact e10.1) (fun m2 l2 U2 h2 hR2 => ?_)
  obtain ⟨f1y, f2y, f3y, f4y, f5y, f6y, a1y, a2y, a3y, a4y, a5y, a6y, a7y, a8y, a9y, a10y, a11y, a12y, a13y, a14y, a15y, a16y, a17y, a18y, a19y, a20y⟩ := U2
  have e8 := aq_r_a8 hR2 n hn
  refine ⟨pk_in n 301 (by omega), ?_⟩
  refine aq_W_ap h2 hR2 hf hc (aq_g_lt _ _) rfl (by rw [en]; exact e8.1) (fun m3 l3 U3 h3 hR3 => ?_)
  obtain ⟨f1z, f2z, f3z, f4z, f5z, f6z, a1z, a2z, a3z, a4z, a5z, a6z, a7z, a8z, a9z, a10z, a11z, a12z, a13z, a14z, a15z, a16z, a17z, a18z, a19z, a20z⟩ := U3
  exact hk _ _ _ h3 hR3
theorem aq_W_unL {post : Int32 → St2 → Prop} {u v : Int32} {fc t q : Nat} {k : Nat → Nat → Nat → Bool} (ht : t < 3) (hq : q < 64)
    (hk : ∀ r m' l' U', k r m' l' = true → aq_R u v fc m' l' U' → post (nI r) U') : ∀ w n r m l f1 f2 f3 f4 f5 f6 a1 a2 a3 a4 a5 a6 a7 a8 a9 a10 a11 a12 a13 a14 a15 a16 a17 a18 a19 a20, aq_unL fc t q k w n r m l = true → aq_R u v fc m l (f1, f2, f3, f4, f5, f6, a1, a2, a3, a4, a5, a6, a7, a8, a9, a10, a11, a12, a13, a14, a15, a16, a17, a18, a19, a20) → n < 64 → wX_undoDownTo_10 post (nI t) (nI q) w (nI n) (nI r) f1 f2 f3 f4 f5 f6 a1 a2 a3 a4 a5 a6 a7 a8 a9 a10 a11 a12 a13 a14 a15 a16 a17 a18 a19 a20 := by
  intro w
  induction w with
  | zero => intros; rename_i h _ _; exact absurd h Bool.false_ne_true
  | succ w ih =>
    intro n r m l f1 f2 f3 f4 f5 f6 a1 a2 a3 a4 a5 a6 a7 a8 a9 a10 a11 a12 a13 a14 a15 a16 a17 a18 a19 a20 h hR hn
    have en : (nI n).toNatClampNeg = n := aq_c (by omega)
    have e6 := aq_r_f6 hR
    have e5 := aq_r_a5 hR n hn
    have e10 := aq_r_a10 hR n hn
    rcases aq_ifle h with ⟨z, h⟩ | ⟨z, h⟩
    · exact br_t (nI_le z (by omega)) (hk _ _ _ _ h hR)
    refine br_f (nI_ge z (by omega)) ?_
    rcases aq_ifle h with ⟨z2, h⟩ | ⟨z2, h⟩
    · exact br_t (by rw [e6.1, show aq_g m 4 = 0 by omega]; decide) (hk _ _ _ _ h hR)
    refine br_f (by rw [e6.1]; exact nI_nle (by omega) (by omega)) ⟨pk_in n 301 (by omega), ?_⟩
    rcases aq_ifeq h with ⟨z3, h⟩ | ⟨z3, h⟩
    · refine br_t (by rw [en, e5.1, z3]; rfl) ?_
      refine aq_W_ue h hR hn ht (fun m1 l1 U1 h1 hR1 => ?_)
      obtain ⟨f1x, f2x, f3x, f4x, f5x, f6x, a1x, a2x, a3x, a4x, a5x, a6x, a7x, a8x, a9x, a10x, a11x, a12x, a13x, a14x, a15x, a16x, a17x, a18x, a19x, a20x⟩ := U1
      obtain ⟨z4, h1⟩ := aq_andle h1
      have h1 := aq_zE h1
      have h1 := aq_zE h1
      have e6 := aq_r_f6 hR1
      have e10 := aq_r_a10 hR1 n hn
      refine nm_r (nI_1 r) (nm_r (show f6x - 1 = nI (aq_g m1 4 - 1) by rw [e6.1]; exact pk_sub z4) ⟨pk_in n 301 (by omega), nm_r (show a10x (nI n).toNatClampNeg = nI (aq_g l1 (8 * n + 5)) by rw [en]; exact e10.1) ?_⟩)
      exact ih _ _ _ _ _ _ _ _ _ _ _ _ _ _ _ _ _ _ _ _ _ _ _ _ _ _ _ _ _ _ h1 (aq_w_f6 hR1 (by omega) rfl) e10.2
    · refine br_f (by rw [en, e5.1]; exact nI_ne0 (by omega) (by omega)) ⟨pk_in n 301 (by omega), nm_r (show a10 (nI n).toNatClampNeg = nI (aq_g l (8 * n + 5)) by rw [en]; exact e10.1) ?_⟩
      exact ih _ _ _ _ _ _ _ _ _ _ _ _ _ _ _ _ _ _ _ _ _ _ _ _ _ _ _ _ _ _ (aq_zE h :) hR e10.2
theorem aq_W_un {post : Int32 → St2 → Prop} {u v p1 : Int32} {fc m l t q : Nat} {U : St2} {k : Nat → Nat → Nat → Bool} (h : aq_un fc m l t q k = true) (hR : aq_R u v fc m l U) (ht : t < 3) (hq : q < 64) (g1 : p1 = nI q)
    (hk : ∀ r m' l' U', k r m' l' = true → aq_R u v fc m' l' U' → post (nI r) U') : wpX_undoDownTo post U (nI t) p1 := by
  subst g1
  obtain ⟨f1, f2, f3, f4, f5, f6, a1, a2, a3, a4, a5, a6, a7, a8, a9, a10, a11, a12, a13, a14, a15, a16, a17, a18, a19, a20⟩ := U
  have et : (nI t).toNatClampNeg = t := aq_c (by omega)
  have e19 := aq_r_a19 hR t ht
  unfold wpX_undoDownTo
  refine ⟨pk_in t 3 ht, nm_r (show a19 (nI t).toNatClampNeg = nI (aq_g m (72 + t)) by rw [et]; exact e19.1) ⟨64, ?_⟩⟩
  exact aq_W_unL ht hq hk 64 _ 0 _ _ _ _ _ _ _ _ _ _ _ _ _ _ _ _ _ _ _ _ _ _ _ _ _ _ _ _ (aq_zE h :) hR e19.2
theorem aq_W_back {post : Int32 → St2 → Prop} {u v : Int32} {fc m l t : Nat} {U : St2} {k : Nat → Nat → Nat → Bool} (h : aq_back fc m l t k = true) (hR : aq_R u v fc m l U) (ht : t < 3)
    (hk : ∀ r m' l' U', k r m' l' = true → aq_R u v fc m' l' U' → post (nI r) U') : wpX_back post U (nI t) := by
  obtain ⟨f1, f2, f3, f4, f5, f6, a1, a2, a3, a4, a5, a6, a7, a8, a9, a10, a11, a12, a13, a14, a15, a16, a17, a18, a19, a20⟩ := U
  have et : (nI t).toNatClampNeg = t := aq_c (by omega)
  have e16 := aq_r_a16 hR t ht
  obtain ⟨z, h⟩ := aq_if0 h
  have h := aq_zE h
  have h := aq_zE h
  unfold wpX_back
  refine aq_W_tr ht (br_f (by decide) ⟨pk_in t 3 ht, ?_⟩)
  refine br_f (by rw [et, e16.1]; exact nI_ne0 (by omega) (by omega)) ?_
  refine aq_W_mr hR ⟨pk_in t 3 ht, ?_⟩
  have hR1 := aq_w_f6 (x := 100000) (y := 100000) hR (by decide) rfl
  have e20 := aq_r_a20 hR1 t ht
  refine aq_W_un h hR1 ht e20.2 (by rw [et]; exact e20.1) (fun r m' l' U' h' hR' => ?_)
  obtain ⟨f1x, f2x, f3x, f4x, f5x, f6x, a1x, a2x, a3x, a4x, a5x, a6x, a7x, a8x, a9x, a10x, a11x, a12x, a13x, a14x, a15x, a16x, a17x, a18x, a19x, a20x⟩ := U'
  exact hk _ _ _ _ h' hR'
theorem aq_W_com {post : Int32 → St2 → Prop} {u v : Int32} {fc m l t : Nat} {U : St2} {k : Nat → Nat → Nat → Bool} (h : aq_com m l t k = true) (hR : aq_R u v fc m l U) (ht : t < 3)
    (hk : ∀ r m' l' U', k r m' l' = true → aq_R u v fc m' l' U' → post (nI r) U') : wpX_commit post U (nI t) := by
  obtain ⟨f1, f2, f3, f4, f5, f6, a1, a2, a3, a4, a5, a6, a7, a8, a9, a10, a11, a12, a13, a14, a15, a16, a17, a18, a19, a20⟩ := U
  have et : (nI t).toNatClampNeg = t := aq_c (by omega)
  have e16 := aq_r_a16 hR t ht
  have e19 := aq_r_a19 hR t ht
  obtain ⟨z, h⟩ := aq_if0 h
  unfold wpX_commit
  refine aq_W_tr ht (br_f (by decide) ⟨pk_in t 3 ht, ?_⟩)
  refine br_f (by rw [et, e16.1]; exact nI_ne0 (by omega) (by omega)) ?_
  refine aq_W_mr hR ⟨pk_in t 3 ht, ?_⟩
  refine aq_W_app (kd := 2) (c := 0) h hR (by decide) ht (by decide) (by decide) (by decide) e19.2 (aq_v0 u v).symm (aq_v0 u v).symm (by rw [et]; exact e19.1) (fun m2 l2 U2 h2 hR2 => ?_)
  obtain ⟨f1x, f2x, f3x, f4x, f5x, f6x, a1x, a2x, a3x, a4x, a5x, a6x, a7x, a8x, a9x, a10x, a11x, a12x, a13x, a14x, a15x, a16x, a17x, a18x, a19x, a20x⟩ := U2
  have h2 := aq_zE h2
  have h2 := aq_zE h2
  have e3 := aq_r_f3 hR2
  have hR3 := aq_w_a16 (i := t) (j := (nI t).toNatClampNeg) (x := 0) (y := 0) (aq_w_f1 hR2 e3.2 e3.1) ht (by decide) et rfl
  have e17 := aq_r_a17 hR3 t ht
  refine ⟨pk_in t 3 ht, nm_e ⟨pk_in t 3 ht, ?_⟩⟩
  exact aq_W_bits e17.2 (by rw [et]; exact e17.1) (hk _ _ _ _ h2 hR3)
theorem aq_W_comi {post : Int32 → St2 → Prop} {u v : Int32} {fc m l t : Nat} {U : St2} (z : aq_g m (60 + t) = 0) (hR : aq_R u v fc m l U) (ht : t < 3) (hp : post (-2) U) : wpX_commit post U (nI t) := by
  obtain ⟨f1, f2, f3, f4, f5, f6, a1, a2, a3, a4, a5, a6, a7, a8, a9, a10, a11, a12, a13, a14, a15, a16, a17, a18, a19, a20⟩ := U
  have et : (nI t).toNatClampNeg = t := aq_c (by omega)
  have e16 := aq_r_a16 hR t ht
  unfold wpX_commit
  refine aq_W_tr ht (br_f (by decide) ⟨pk_in t 3 ht, ?_⟩)
  exact br_t (by rw [et, e16.1, z]; rfl) hp
theorem aq_W_abo {post : Int32 → St2 → Prop} {u v : Int32} {fc m l t : Nat} {U : St2} {k : Nat → Nat → Nat → Bool} (h : aq_abo fc m l t k = true) (hR : aq_R u v fc m l U) (ht : t < 3)
    (hk : ∀ r m' l' U', k r m' l' = true → aq_R u v fc m' l' U' → post (nI r) U') : wpX_abort post U (nI t) := by
  obtain ⟨f1, f2, f3, f4, f5, f6, a1, a2, a3, a4, a5, a6, a7, a8, a9, a10, a11, a12, a13, a14, a15, a16, a17, a18, a19, a20⟩ := U
  have et : (nI t).toNatClampNeg = t := aq_c (by omega)
  have e16 := aq_r_a16 hR t ht
  obtain ⟨z, h⟩ := aq_if0 h
  have h := aq_zE h
  unfold wpX_abort
  refine aq_W_tr ht (br_f (by decide) ⟨pk_in t 3 ht, ?_⟩)
  refine br_f (by rw [et, e16.1]; exact nI_ne0 (by omega) (by omega)) ?_
  refine aq_W_mr hR ?_
  have hR1 := aq_w_f6 (x := 100000) (y := 100000) hR (by decide) rfl
  refine aq_W_un (q := 0) h hR1 ht (by decide) rfl (fun r m1 l1 U1 h1 hR1 => ?_)
  obtain ⟨f1x, f2x, f3x, f4x, f5x, f6x, a1x, a2x, a3x, a4x, a5x, a6x, a7x, a8x, a9x, a10x, a11x, a12x, a13x, a14x, a15x, a16x, a17x, a18x, a19x, a20x⟩ := U1
  have e19 := aq_r_a19 hR1 t ht
  refine ⟨pk_in t 3 ht, ?_⟩
  refine aq_W_app (kd := 3) (c := 0) h1 hR1 (by decide) ht (by decide) (by decide) (by decide) e19.2 (aq_v0 u v).symm (aq_v0 u v).symm (by rw [et]; exact e19.1) (fun m2 l2 U2 h2 hR2 => ?_)
  obtain ⟨f1y, f2y, f3y, f4y, f5y, f6y, a1y, a2y, a3y, a4y, a5y, a6y, a7y, a8y, a9y, a10y, a11y, a12y, a13y, a14y, a15y, a16y, a17y, a18y, a19y, a20y⟩ := U2
  have h2 := aq_zE h2
  have h2 := aq_zE h2
  have hR3 := aq_w_a16 (i := t) (j := (nI t).toNatClampNeg) (x := 0) (y := 0) hR2 ht (by decide) et rfl
  have e17 := aq_r_a17 hR3 t ht
  refine ⟨pk_in t 3 ht, nm_e ⟨pk_in t 3 ht, ?_⟩⟩
  exact aq_W_bits e17.2 (by rw [et]; exact e17.1) (hk _ _ _ _ h2 hR3)
theorem aq_W_rc {post : Int32 → Prop} {u v : Int32} {fc m l : Nat} {U : St2} (hR : aq_R u v fc m l U) (hp : post (nI (aq_rc m 3))) : wpX_runningCount post U := by
  obtain ⟨f1, f2, f3, f4, f5, f6, a1, a2, a3, a4, a5, a6, a7, a8, a9, a10, a11, a12, a13, a14, a15, a16, a17, a18, a19, a20⟩ := U
  refine pk_loop (σ := Unit) (fun n i _ => wX_runningCount_4 post f1 f2 f3 f4 f5 f6 a1 a2 a3 a4 a5 a6 a7 a8 a9 a10 a11 a12 a13 a14 a15 a16 a17 a18 a19 a20 n (nI (aq_rc m i)) (nI i)) (fun _ _ => True) 3 0 () (by omega) trivial
    (fun n _ _ => pk_le 3 3 (fun _ => hp) (fun z => absurd z (by omega))) (fun n i _ hi _ hw => ?_)
  have e16 := aq_r_a16 hR i hi
  have t := hw () trivial
  have e : aq_rc m (i + 1) = aq_rc m i + aq_g m (60 + i) := rfl
  rw [e] at t
  refine pk_le 3 i (fun z => absurd z (by omega)) (fun _ => ⟨pk_in i 3 hi, ?_⟩)
  refine pk_eq (aq_g m (60 + i)) 0 (fun z => nm_r (nI_1 i) ?_) (fun z => nm_r (nI_1 _) (nm_r (nI_1 i) ?_)) (by rw [aq_c (by omega)]; exact e16.1)
  · rw [z] at t; exact t
  · rw [show aq_g m (60 + i) = 1 by omega] at t; exact t
end
section
theorem aq_W_cp76 {post : Int32 → St2 → Prop} {u v : Int32} {fc l : Nat} {k : Nat → Nat → Nat → Bool} {f1 f2 f3 f4 f5 f6 : Int32} {a1 a2 a3 a4 a5 a6 a7 a8 a9 a10 a11 a12 a13 a14 a15 a16 a17 a18 a19 a20 : Nat → Int32}
    (hk : ∀ r m' l' U', k r m' l' = true → aq_R u v fc m' l' U' → post (nI r) U') : ∀ w f m s, aq_cpL fc l k w f m = true → aq_R u v fc m l (f1, f2, f3, f4, f5, f6, a1, a2, a3, s, a5, a6, a7, a8, a9, a10, a11, a12, a13, a14, a15, a16, a17, a18, a19, a20) → f < 2 ^ 24 → wX_checkpoint_76 post f1 f2 f3 f4 f5 f6 w (nI f) a1 a2 a3 s a5 a6 a7 a8 a9 a10 a11 a12 a13 a14 a15 a16 a17 a18 a19 a20 := by
  intro w
  induction w with
  | zero => intro _ _ _ h _ _; exact absurd h Bool.false_ne_true
  | succ w ih =>
    intro f m s h hR hf
    have ef : (nI f).toNatClampNeg = f := aq_c (by omega)
    have e4 := aq_r_f4 hR
    rcases aq_ifle h with ⟨z, h⟩ | ⟨z, h⟩
    · exact br_t (by rw [e4.1]; exact nI_le z (by omega)) (aq_W_rc hR (hk _ _ _ _ (aq_zE h :) hR))
    have e12 := aq_r_a12 hR f (by omega)
    have e15 := aq_r_a15 hR f (by omega)
    refine br_f (by rw [e4.1]; exact nI_ge z (by omega)) ⟨pk_in f 3 (by omega), ?_⟩
    rcases aq_ifeq h with ⟨z2, h⟩ | ⟨z2, h⟩
    · exact br_t (by rw [ef, e12.1]; exact (aq_pneg e12.2).mpr z2) (nm_r (nI_1 f) (ih _ _ _ h hR (by omega)))
    · have ep : a12 (nI f).toNatClampNeg = nI (aq_g m (36 + f) - 1) := by rw [ef, e12.1, aq_pn z2]
      refine br_f (by rw [ef, e12.1, aq_pneg e12.2]; exact z2) ⟨pk_in f 3 (by omega), pk_in f 3 (by omega), pk_in (aq_g m (36 + f) - 1) 4 (by omega) ep, nm_e (nm_r (nI_1 f) ?_)⟩
      exact ih _ _ _ (aq_zE h :) (aq_w_a4 hR (by omega) e15.2 (by rw [ep]; exact aq_c (by omega)) (by rw [ef, e15.1]; exact aq_ns e15.2)) (by omega)
theorem aq_W_cp56 {post : Int32 → St2 → Prop} {u v : Int32} {fc m l : Nat} {k : Nat → Nat → Nat → Bool} {f1 f2 f3 f4 f5 f6 : Int32} {a1 a2 a3 a4 a5 a6 a7 a8 a9 a10 a11 a12 a13 a14 a15 a16 a17 a18 a19 a20 : Nat → Int32} (hR : aq_R u v fc m l (f1, f2, f3, f4, f5, f6, a1, a2, a3, a4, a5, a6, a7, a8, a9, a10, a11, a12, a13, a14, a15, a16, a17, a18, a19, a20)) (h : aq_cpL fc l k 4 0 (aq_for (fun p m => aq_s m (32 + p) 0) m 4) = true)
    (hk : ∀ r m' l' U', k r m' l' = true → aq_R u v fc m' l' U' → post (nI r) U') : ∃ n, wX_checkpoint_56 post f1 f2 f3 f4 f5 f6 n 0 a1 a2 a3 a4 a5 a6 a7 a8 a9 a10 a11 a12 a13 a14 a15 a16 a17 a18 a19 a20 :=
  pk_loop (fun n i s => wX_checkpoint_56 post f1 f2 f3 f4 f5 f6 n (nI i) a1 a2 a3 s a5 a6 a7 a8 a9 a10 a11 a12 a13 a14 a15 a16 a17 a18 a19 a20) (fun i s => aq_R u v fc (aq_for (fun p m => aq_s m (32 + p) 0) m i) l (f1, f2, f3, f4, f5, f6, a1, a2, a3, s, a5, a6, a7, a8, a9, a10, a11, a12, a13, a14, a15, a16, a17, a18, a19, a20)) 4 0 a4 (by omega) hR
    (fun n s hs => pk_le 4 4 (fun _ => ⟨4, aq_W_cp76 (a4 := a4) hk 4 0 _ _ h hs (by omega)⟩) (fun z => absurd z (by omega)))
    (fun n i s hi hs hw => pk_le 4 i (fun z => absurd z (by omega)) (fun _ => ⟨pk_in i 4 hi, nm_e (nm_r (nI_1 i) (hw _ (aq_w_a4 hs hi (by decide) (aq_c (by omega)) rfl)))⟩))
theorem aq_W_cp18 {post : Int32 → St2 → Prop} {u v : Int32} {fc m l : Nat} {f1 f2 f3 f4 f5 f6 : Int32} {a1 a2 a3 a4 a5 a6 a7 a8 a9 a10 a11 a12 a13 a14 a15 a16 a17 a18 a19 a20 : Nat → Int32} (hR : aq_R u v fc m l (f1, f2, f3, f4, f5, f6, a1, a2, a3, a4, a5, a6, a7, a8, a9, a10, a11, a12, a13, a14, a15, a16, a17, a18, a19, a20))
    (hk : ∀ s, aq_R u v fc (aq_for (fun t m => aq_s m (28 + t) (bif Nat.beq (aq_g m (60 + t)) 0 then 0 else aq_g m (72 + t))) m 3) l (f1, f2, f3, f4, f5, f6, a1, a2, s, a4, a5, a6, a7, a8, a9, a10, a11, a12, a13, a14, a15, a16, a17, a18, a19, a20) → ∃ n, wX_checkpoint_56 post f1 f2 f3 f4 f5 f6 n 0 a1 a2 s a4 a5 a6 a7 a8 a9 a10 a11 a12 a13 a14 a15 a16 a17 a18 a19 a20) : ∃ n, wX_checkpoint_18 post f1 f2 f3 f4 f5 f6 n 0 a1 a2 a3 a4 a5 a6 a7 a8 a9 a10 a11 a12 a13 a14 a15 a16 a17 a18 a19 a20 := by
  refine pk_loop (fun n i s => wX_checkpoint_18 post f1 f2 f3 f4 f5 f6 n (nI i) a1 a2 s a4 a5 a6 a7 a8 a9 a10 a11 a12 a13 a14 a15 a16 a17 a18 a19 a20) (fun i s => aq_R u v fc (aq_for (fun t m => aq_s m (28 + t) (bif Nat.beq (aq_g m (60 + t)) 0 then 0 else aq_g m (72 + t))) m i) l (f1, f2, f3, f4, f5, f6, a1, a2, s, a4, a5, a6, a7, a8, a9, a10, a11, a12, a13, a14, a15, a16, a17, a18, a19, a20)) 3 0 a3 (by omega) hR
    (fun n s hs => pk_le 3 3 (fun _ => hk s hs) (fun z => absurd z (by omega))) ?_
  intro n i s hi hs hw
  have ei : (nI i).toNatClampNeg = i := aq_c (by omega)
  have e : aq_for (fun t m => aq_s m (28 + t) (bif Nat.beq (aq_g m (60 + t)) 0 then 0 else aq_g m (72 + t))) m (i + 1) = aq_s (aq_for (fun t m => aq_s m (28 + t) (bif Nat.beq (aq_g m (60 + t)) 0 then 0 else aq_g m (72 + t))) m i) (28 + i) (bif Nat.beq (aq_g (aq_for (fun t m => aq_s m (28 + t) (bif Nat.beq (aq_g m (60 + t)) 0 then 0 else aq_g m (72 + t))) m i) (60 + i)) 0 then 0 else aq_g (aq_for (fun t m => aq_s m (28 + t) (bif Nat.beq (aq_g m (60 + t)) 0 then 0 else aq_g m (72 + t))) m i) (72 + i)) := rfl
  rw [e] at hw
  clear e
  revert hs hw
  generalize aq_for (fun t m => aq_s m (28 + t) (bif Nat.beq (aq_g m (60 + t)) 0 then 0 else aq_g m (72 + t))) m i = M
  intro hs hw
  have e16 := aq_r_a16 hs i hi
  have e19 := aq_r_a19 hs i hi
  refine pk_le 3 i (fun z => absurd z (by omega)) (fun _ => ⟨pk_in i 3 hi, ?_⟩)
  refine pk_eq (aq_g M (60 + i)) 0 (fun z => ⟨pk_in i 3 hi, nm_e (nm_r (nI_1 i) ?_)⟩) (fun z => ⟨pk_in i 3 hi, pk_in i 3 hi, nm_e (nm_r (nI_1 i) ?_)⟩) (by rw [ei]; exact e16.1)
  · rw [aq_bt z] at hw
    exact hw _ (aq_w_a3 hs hi (by decide) ei rfl)
  · rw [aq_bf z] at hw
    exact hw _ (aq_w_a3 hs hi e19.2 ei (by rw [ei, e19.1]; exact aq_ns e19.2))
theorem aq_W_chk {post : Int32 → St2 → Prop} {u v : Int32} {fc m l : Nat} {U : St2} {k : Nat → Nat → Nat → Bool} (h : aq_chk fc m l k = true) (hR : aq_R u v fc m l U)
    (hk : ∀ r m' l' U', k r m' l' = true → aq_R u v fc m' l' U' → post (nI r) U') : wpX_checkpoint post U := by
  obtain ⟨f1, f2, f3, f4, f5, f6, a1, a2, a3, a4, a5, a6, a7, a8, a9, a10, a11, a12, a13, a14, a15, a16, a17, a18, a19, a20⟩ := U
  have e3 := aq_r_f3 hR
  have h := aq_zE h
  have h := aq_zE h
  have h := aq_zE h
  exact aq_W_cp18 (aq_w_f2 (aq_w_f1 hR e3.2 e3.1) e3.2 e3.1) (fun s hs => aq_W_cp56 hs h hk)
theorem aq_W_lo30 {post : St2 → Prop} {u v : Int32} {fc m l : Nat} {f1 f2 f3 f4 f5 f6 : Int32} {a1 a2 a3 a4 a5 a6 a7 a8 a9 a10 a11 a12 a13 a14 a15 a16 a17 a18 a19 a20 : Nat → Int32} (hR : aq_R u v fc m l (f1, f2, f3, f4, f5, f6, a1, a2, a3, a4, a5, a6, a7, a8, a9, a10, a11, a12, a13, a14, a15, a16, a17, a18, a19, a20)) (hk : ∀ U', aq_R u v fc (aq_for (fun t m => aq_s (aq_s m (60 + t) 0) (72 + t) 0) m 3) l U' → post U') : ∃ n, wX_loseMemory_30 post f1 f2 f3 f4 f5 f6 n 0 a1 a2 a3 a4 a5 a6 a7 a8 a9 a10 a11 a12 a13 a14 a15 a16 a17 a18 a19 a20 :=
  pk_loop (σ := (Nat → Int32) × (Nat → Int32)) (fun n i s => wX_loseMemory_30 post f1 f2 f3 f4 f5 f6 n (nI i) a1 a2 a3 a4 a5 a6 a7 a8 a9 a10 a11 a12 a13 a14 a15 s.1 a17 a18 s.2 a20) (fun i s => aq_R u v fc (aq_for (fun t m => aq_s (aq_s m (60 + t) 0) (72 + t) 0) m i) l (f1, f2, f3, f4, f5, f6, a1, a2, a3, a4, a5, a6, a7, a8, a9, a10, a11, a12, a13, a14, a15, s.1, a17, a18, s.2, a20)) 3 0 (a16, a19) (by omega) hR
    (fun n s hs => pk_le 3 3 (fun _ => hk _ hs) (fun z => absurd z (by omega)))
    (fun n i s hi hs hw => pk_le 3 i (fun z => absurd z (by omega)) (fun _ => ⟨pk_in i 3 hi, nm_e ⟨pk_in i 3 hi, nm_e (nm_r (nI_1 i) (hw (_, _) (aq_w_a19 (aq_w_a16 hs hi (by decide) (aq_c (by omega)) rfl) hi (by decide) (aq_c (by omega)) rfl)))⟩⟩))
theorem aq_W_lo10 {post : St2 → Prop} {u v : Int32} {fc m l : Nat} {f1 f2 f3 f4 f5 f6 : Int32} {a1 a2 a3 a4 a5 a6 a7 a8 a9 a10 a11 a12 a13 a14 a15 a16 a17 a18 a19 a20 : Nat → Int32} (hR : aq_R u v fc m l (f1, f2, f3, f4, f5, f6, a1, a2, a3, a4, a5, a6, a7, a8, a9, a10, a11, a12, a13, a14, a15, a16, a17, a18, a19, a20)) (hk : ∀ s, aq_R u v fc (aq_for (fun f m => aq_s m (36 + f) 0) m 3) l (f1, f2, f3, f4, f5, f6, a1, a2, a3, a4, a5, a6, a7, a8, a9, a10, a11, s, a13, a14, a15, a16, a17, a18, a19, a20) → ∃ n, wX_loseMemory_30 post f1 f2 f3 f4 f5 f6 n 0 a1 a2 a3 a4 a5 a6 a7 a8 a9 a10 a11 s a13 a14 a15 a16 a17 a18 a19 a20) : ∃ n, wX_loseMemory_10 post f1 f2 f3 f4 f5 f6 n 0 a1 a2 a3 a4 a5 a6 a7 a8 a9 a10 a11 a12 a13 a14 a15 a16 a17 a18 a19 a20 :=
  pk_loop (fun n i s => wX_loseMemory_10 post f1 f2 f3 f4 f5 f6 n (nI i) a1 a2 a3 a4 a5 a6 a7 a8 a9 a10 a11 s a13 a14 a15 a16 a17 a18 a19 a20) (fun i s => aq_R u v fc (aq_for (fun f m => aq_s m (36 + f) 0) m i) l (f1, f2, f3, f4, f5, f6, a1, a2, a3, a4, a5, a6, a7, a8, a9, a10, a11, s, a13, a14, a15, a16, a17, a18, a19, a20)) 3 0 a12 (by omega) hR
    (fun n s hs => pk_le 3 3 (fun _ => hk s hs) (fun z => absurd z (by omega)))
    (fun n i s hi hs hw => pk_le 3 i (fun z => absurd z (by omega)) (fun _ => ⟨pk_in i 3 hi, nm_e (nm_r (nI_1 i) (hw _ (aq_w_a12 hs hi (by decide) (aq_c (by omega)) rfl)))⟩))
theorem aq_W_lose {post : St2 → Prop} {u v : Int32} {fc m l : Nat} {U : St2} {k : Nat → Nat → Bool} (h : aq_lose m l k = true) (hR : aq_R u v fc m l U)
    (hk : ∀ m' l' U', k m' l' = true → aq_R u v fc m' l' U' → post U') : wpX_loseMemory post U := by
  obtain ⟨f1, f2, f3, f4, f5, f6, a1, a2, a3, a4, a5, a6, a7, a8, a9, a10, a11, a12, a13, a14, a15, a16, a17, a18, a19, a20⟩ := U
  have e1 := aq_r_f1 hR
  have h := aq_zE h
  have h := aq_zE h
  have h := aq_zE h
  exact aq_W_lo10 (aq_w_f3 hR e1.2 e1.1) (fun s hs => aq_W_lo30 hs (fun U' hU => hk _ _ _ h hU))
theorem aq_W_fl32 {post : St2 → Prop} {u v : Int32} {fc l : Nat} {k : Nat → Nat → Bool} {f1 f2 f3 f4 f5 f6 : Int32} {a1 a2 a3 a4 a5 a6 a7 a8 a9 a10 a11 a12 a13 a14 a15 a16 a17 a18 a19 a20 : Nat → Int32}
    (hk : ∀ m' l' U', k m' l' = true → aq_R u v fc m' l' U' → post U') : ∀ w n m s, aq_flL l k w n m = true → aq_R u v fc m l (f1, f2, f3, f4, f5, f6, a1, a2, a3, a4, a5, a6, a7, a8, a9, a10, a11, a12, a13, a14, a15, a16, a17, a18, s, a20) → n < 2 ^ 24 → wX_findLosers_32 post f1 f2 f3 f4 f5 f6 w (nI n) a1 a2 a3 a4 a5 a6 a7 a8 a9 a10 a11 a12 a13 a14 a15 a16 a17 a18 s a20 := by
  intro w
  induction w with
  | zero => intro _ _ _ h _ _; exact absurd h Bool.false_ne_true
  | succ w ih =>
    intro n m s h hR hn
    have en : (nI n).toNatClampNeg = n := aq_c (by omega)
    have e3 := aq_r_f3 hR
    rcases aq_ifle h with ⟨z, h⟩ | ⟨z, h⟩
    · have h := aq_zE h
      have e5 := aq_r_a5 hR n (by omega)
      have e6 := aq_r_a6 hR n (by omega)
      have e6' : (a6 (nI n).toNatClampNeg).toNatClampNeg = aq_g l (8 * n + 1) := by rw [en, e6.1]; exact aq_c (by omega)
      refine br_f (by rw [e3.1]; exact nI_nlt z (by omega)) ⟨pk_in n 301 (by omega), pk_in n 301 (by omega), ?_⟩
      have e6i : vp_in (a6 (nI n).toNatClampNeg) 3 := pk_in (aq_g l (8 * n + 1)) 3 e6.2 (by rw [en]; exact e6.1)
      refine pk_lt (aq_g l (8 * n + 0)) 2 (fun y => ⟨e6i, nm_e (nm_r (nI_1 n) ?_)⟩) (fun y => ⟨e6i, nm_e (nm_r (nI_1 n) ?_)⟩) (by rw [en]; exact e5.1)
      · rw [aq_lf y] at h
        exact ih _ _ _ h (aq_w_a19 hR e6.2 (by omega) e6' (aq_sh (by omega))) (by omega)
      · rw [aq_lt y] at h
        exact ih _ _ _ h (aq_w_a19 hR e6.2 (by decide) e6' rfl) (by omega)
    · exact br_t (by rw [e3.1]; exact nI_lt z (by omega)) (hk _ _ _ h hR)
theorem aq_W_fl {post : St2 → Prop} {u v : Int32} {fc m l : Nat} {U : St2} {k : Nat → Nat → Bool} (h : aq_fl m l k = true) (hR : aq_R u v fc m l U)
    (hk : ∀ m' l' U', k m' l' = true → aq_R u v fc m' l' U' → post U') : wpX_findLosers post U := by
  obtain ⟨f1, f2, f3, f4, f5, f6, a1, a2, a3, a4, a5, a6, a7, a8, a9, a10, a11, a12, a13, a14, a15, a16, a17, a18, a19, a20⟩ := U
  have h := aq_zE h
  have h := aq_zE h
  refine pk_loop (fun n i s => wX_findLosers_2 post f1 f2 f3 f4 f5 f6 n (nI i) a1 a2 a3 a4 a5 a6 a7 a8 a9 a10 a11 a12 a13 a14 a15 a16 a17 a18 s a20) (fun i s => aq_R u v fc (aq_for (fun t m => aq_s m (72 + t) (aq_g m (28 + t))) m i) l (f1, f2, f3, f4, f5, f6, a1, a2, a3, a4, a5, a6, a7, a8, a9, a10, a11, a12, a13, a14, a15, a16, a17, a18, s, a20)) 3 0 a19 (by omega) hR ?_ ?_
  · intro n s hs
    have e2 := aq_r_f2 hs
    exact pk_le 3 3 (fun _ => nm_r (show f2 + 1 = nI (aq_g (aq_for (fun t m => aq_s m (72 + t) (aq_g m (28 + t))) m 3) 1 + 1) by rw [e2.1, nI_1]) ⟨65, aq_W_fl32 (a19 := a19) hk 65 _ _ _ h hs (by omega)⟩) (fun z => absurd z (by omega))
  · intro n i s hi hs hw
    have e3 := aq_r_a3 hs i hi
    exact pk_le 3 i (fun z => absurd z (by omega)) (fun _ => ⟨pk_in i 3 hi, pk_in i 3 hi, nm_e (nm_r (nI_1 i) (hw _ (aq_w_a19 hs hi e3.2 (aq_c (by omega)) (by rw [aq_c (by omega), e3.1]; exact aq_ns e3.2))))⟩)
theorem aq_W_da48 {post : St2 → Prop} {u v : Int32} {fc : Nat} {k : Nat → Nat → Bool}
    (hk : ∀ m' l' U', k m' l' = true → aq_R u v fc m' l' U' → post U') : ∀ w n m l f1 f2 f3 f4 f5 f6 a1 a2 a3 a4 a5 a6 a7 a8 a9 a10 a11 a12 a13 a14 a15 a16 a17 a18 a19 a20, aq_daL fc k w n m l = true → aq_R u v fc m l (f1, f2, f3, f4, f5, f6, a1, a2, a3, a4, a5, a6, a7, a8, a9, a10, a11, a12, a13, a14, a15, a16, a17, a18, a19, a20) → n < 2 ^ 24 → wX_doAgain_48 post w (nI n) f1 f2 f3 f4 f5 f6 a1 a2 a3 a4 a5 a6 a7 a8 a9 a10 a11 a12 a13 a14 a15 a16 a17 a18 a19 a20 := by
  intro w
  induction w with
  | zero => intros; rename_i h _ _; exact absurd h Bool.false_ne_true
  | succ w ih =>
    intro n m l f1 f2 f3 f4 f5 f6 a1 a2 a3 a4 a5 a6 a7 a8 a9 a10 a11 a12 a13 a14 a15 a16 a17 a18 a19 a20 h hR hn
    have en : (nI n).toNatClampNeg = n := aq_c (by omega)
    have e3 := aq_r_f3 hR
    have e6 := aq_r_f6 hR
    rcases aq_ifle h with ⟨z, h⟩ | ⟨z, h⟩
    · refine br_f (by rw [e3.1]; exact nI_nlt z (by omega)) ?_
      have e5 := aq_r_a5 hR n (by omega)
      have e7 := aq_r_a7 hR n (by omega)
      rcases aq_ifle h with ⟨z2, h⟩ | ⟨z2, h⟩
      · exact br_t (by rw [e6.1, show aq_g m 4 = 0 by omega]; decide) (hk _ _ _ h hR)
      refine br_f (by rw [e6.1]; exact nI_nle (by omega) (by omega)) ⟨pk_in n 301 (by omega), ?_⟩
      rcases aq_ifle h with ⟨z3, h⟩ | ⟨z3, h⟩
      · exact br_f (by rw [en, e5.1]; exact nI_nlt z3 (by omega)) (nm_r (nI_1 n) (ih _ _ _ _ _ _ _ _ _ _ _ _ _ _ _ _ _ _ _ _ _ _ _ _ _ _ _ _ _ h hR (by omega)))
      refine br_t (by rw [en, e5.1]; exact nI_lt (b := 2) z3 (by omega)) ⟨pk_in n 301 (by omega), ?_⟩
      refine aq_W_br h hR (show aq_g l (8 * n + 2) / 4 < 2 ^ 24 by omega) (by rw [en, e7.1]; exact aq_sr2 (by omega)) (fun f m1 l1 U1 h1 hf hR1 => ?_)
      obtain ⟨f1x, f2x, f3x, f4x, f5x, f6x, a1x, a2x, a3x, a4x, a5x, a6x, a7x, a8x, a9x, a10x, a11x, a12x, a13x, a14x, a15x, a16x, a17x, a18x, a19x, a20x⟩ := U1
      have ef : (nI f).toNatClampNeg = f := aq_c (by omega)
      have e14 := aq_r_a14 hR1 f hf
      have e7 := aq_r_a7 hR1 n (by omega)
      have e9 := aq_r_a9 hR1 n (by omega)
      refine ⟨pk_in f 3 hf, ?_⟩
      rcases aq_ifle h1 with ⟨z4, h1⟩ | ⟨z4, h1⟩
      · exact br_f (by rw [ef, e14.1]; exact nI_nlt z4 (by omega)) (nm_r (nI_1 n) (ih _ _ _ _ _ _ _ _ _ _ _ _ _ _ _ _ _ _ _ _ _ _ _ _ _ _ _ _ _ h1 hR1 (by omega)))
      refine br_t (by rw [ef, e14.1]; exact nI_lt z4 (by omega)) ⟨pk_in n 301 (by omega), pk_in n 301 (by omega), ?_⟩
      refine aq_W_ape h1 hR1 hf e7.2 (aq_g_lt _ _) (by omega) (by rw [en]; exact e7.1) (by rw [en]; exact e9.1) (fun m2 l2 U2 h2 hR2 => ?_)
      obtain ⟨f1y, f2y, f3y, f4y, f5y, f6y, a1y, a2y, a3y, a4y, a5y, a6y, a7y, a8y, a9y, a10y, a11y, a12y, a13y, a14y, a15y, a16y, a17y, a18y, a19y, a20y⟩ := U2
      obtain ⟨z5, h2⟩ := aq_andle h2
      have e6 := aq_r_f6 hR2
      refine nm_r (show f6y - 1 = nI (aq_g m2 4 - 1) by rw [e6.1]; exact pk_sub z5) (nm_r (nI_1 n) ?_)
      exact ih _ _ _ _ _ _ _ _ _ _ _ _ _ _ _ _ _ _ _ _ _ _ _ _ _ _ _ _ _ (aq_zE h2 :) (aq_w_f6 hR2 (by omega) rfl) (by omega)
    · exact br_t (by rw [e3.1]; exact nI_lt z (by omega)) (hk _ _ _ h hR)
theorem aq_frb {u v : Int32} {fc m l : Nat} {f1 f2 f3 f4 f5 f6 : Int32} {a1 a2 a3 a4 a5 a6 a7 a8 a9 a10 a11 a12 a13 a14 a15 a16 a17 a18 a19 a20 : Nat → Int32} (hR : aq_R u v fc m l (f1, f2, f3, f4, f5, f6, a1, a2, a3, a4, a5, a6, a7, a8, a9, a10, a11, a12, a13, a14, a15, a16, a17, a18, a19, a20)) : ∀ i, i ≤ 4 → aq_fr m i < 65 := by
  intro i
  induction i with
  | zero => intro _; show aq_g m 1 + 1 < 65; have e := aq_r_f2 hR; omega
  | succ i ih =>
    intro hi
    have e4 := aq_r_a4 hR i (by omega)
    have t := ih (by omega)
    show (bif Nat.beq (aq_g m (32 + i)) 0 then aq_fr m i else bif Nat.ble (aq_fr m i) (aq_g m (32 + i)) then aq_fr m i else aq_g m (32 + i)) < 65
    cases Nat.beq (aq_g m (32 + i)) 0 <;> cases Nat.ble (aq_fr m i) (aq_g m (32 + i)) <;> (dsimp only [cond]; omega)
theorem aq_W_da {post : St2 → Prop} {u v : Int32} {fc m l : Nat} {U : St2} {k : Nat → Nat → Bool} (h : aq_da fc m l k = true) (hR : aq_R u v fc m l U)
    (hk : ∀ m' l' U', k m' l' = true → aq_R u v fc m' l' U' → post U') : wpX_doAgain post U := by
  obtain ⟨f1, f2, f3, f4, f5, f6, a1, a2, a3, a4, a5, a6, a7, a8, a9, a10, a11, a12, a13, a14, a15, a16, a17, a18, a19, a20⟩ := U
  have h := aq_zE h
  have e2 := aq_r_f2 hR
  unfold wpX_doAgain
  refine nm_r (show f2 + 1 = nI (aq_fr m 0) by rw [e2.1, nI_1]; rfl) ?_
  refine pk_loop (σ := Unit) (fun n i _ => wX_doAgain_9 post f1 f2 f3 f4 f5 f6 a1 a2 a3 a4 a5 a6 a7 a8 a9 a10 a11 a12 a13 a14 a15 a16 a17 a18 a19 a20 n (nI (aq_fr m i)) (nI i)) (fun _ _ => True) 4 0 () (by omega) trivial ?_ ?_
  · intro n _ _
    have t := aq_frb hR 4 (by omega)
    exact pk_le 4 4 (fun _ => ⟨65, aq_W_da48 hk 65 _ _ _ _ _ _ _ _ _ _ _ _ _ _ _ _ _ _ _ _ _ _ _ _ _ _ _ _ _ h hR (by omega)⟩) (fun z => absurd z (by omega))
  · intro n i _ hi _ hw
    have ei : (nI i).toNatClampNeg = i := aq_c (by omega)
    have t := aq_frb hR i (by omega)
    have e4 := aq_r_a4 hR i hi
    have hw := hw () trivial
    rw [show aq_fr m (i + 1) = (bif Nat.beq (aq_g m (32 + i)) 0 then aq_fr m i else bif Nat.ble (aq_fr m i) (aq_g m (32 + i)) then aq_fr m i else aq_g m (32 + i)) from rfl] at hw
    refine pk_le 4 i (fun z => absurd z (by omega)) (fun _ => ⟨pk_in i 4 hi, ?_⟩)
    refine pk_eq (aq_g m (32 + i)) 0 (fun z => nm_r (nI_1 i) ?_) (fun z => ⟨pk_in i 4 hi, ?_⟩) (by rw [ei]; exact e4.1)
    · rw [aq_bt z] at hw; exact hw
    · rw [aq_bf z] at hw
      refine pk_le (aq_fr m i) (aq_g m (32 + i)) (fun y => nm_r (nI_1 i) ?_) (fun y => ⟨pk_in i 4 hi, nm_r (show a4 (nI i).toNatClampNeg = nI (aq_g m (32 + i)) by rw [ei]; exact e4.1) (nm_r (nI_1 i) ?_)⟩) rfl (by rw [ei]; exact e4.1)
      · rw [aq_lt y] at hw; exact hw
      · rw [aq_lf y] at hw; exact hw
theorem aq_W_waL {post : St2 → Prop} {u v : Int32} {fc : Nat} {k : Nat → Nat → Bool}
    (hk : ∀ m' l' U', k m' l' = true → aq_R u v fc m' l' U' → post U') : ∀ w f m l f1 f2 f3 f4 f5 f6 a1 a2 a3 a4 a5 a6 a7 a8 a9 a10 a11 a12 a13 a14 a15 a16 a17 a18 a19 a20, aq_waL fc k w f m l = true → aq_R u v fc m l (f1, f2, f3, f4, f5, f6, a1, a2, a3, a4, a5, a6, a7, a8, a9, a10, a11, a12, a13, a14, a15, a16, a17, a18, a19, a20) → f < 2 ^ 24 → wX_writeAllPages_2 post w (nI f) f1 f2 f3 f4 f5 f6 a1 a2 a3 a4 a5 a6 a7 a8 a9 a10 a11 a12 a13 a14 a15 a16 a17 a18 a19 a20 := by
  intro w
  induction w with
  | zero => intros; rename_i h _ _; exact absurd h Bool.false_ne_true
  | succ w ih =>
    intro f m l f1 f2 f3 f4 f5 f6 a1 a2 a3 a4 a5 a6 a7 a8 a9 a10 a11 a12 a13 a14 a15 a16 a17 a18 a19 a20 h hR hf
    have e4 := aq_r_f4 hR
    rcases aq_ifle h with ⟨z, h⟩ | ⟨z, h⟩
    · exact br_t (by rw [e4.1]; exact nI_le z (by omega)) (hk _ _ _ h hR)
    refine br_f (by rw [e4.1]; exact nI_ge z (by omega)) ?_
    refine aq_W_wp h hR (by omega) (fun m1 l1 U1 h1 hR1 => ?_)
    obtain ⟨f1x, f2x, f3x, f4x, f5x, f6x, a1x, a2x, a3x, a4x, a5x, a6x, a7x, a8x, a9x, a10x, a11x, a12x, a13x, a14x, a15x, a16x, a17x, a18x, a19x, a20x⟩ := U1
    exact nm_r (nI_1 f) (ih _ _ _ _ _ _ _ _ _ _ _ _ _ _ _ _ _ _ _ _ _ _ _ _ _ _ _ _ _ h1 hR1 (by omega))
theorem aq_W_fg54 {post : St2 → Prop} {u v : Int32} {fc m l : Nat} {f1 f2 f3 f4 f5 f6 : Int32} {a1 a2 a3 a4 a5 a6 a7 a8 a9 a10 a11 a12 a13 a14 a15 a16 a17 a18 a19 a20 : Nat → Int32} (hR : aq_R u v fc m l (f1, f2, f3, f4, f5, f6, a1, a2, a3, a4, a5, a6, a7, a8, a9, a10, a11, a12, a13, a14, a15, a16, a17, a18, a19, a20)) (hk : ∀ U', aq_R u v fc (aq_for (fun f m => aq_s (aq_s m (52 + f) 0) (56 + f) 0) m 3) l U' → post U') : ∃ n, wX_forgetNumbers_54 post f1 f2 f3 f4 f5 f6 n 0 a1 a2 a3 a4 a5 a6 a7 a8 a9 a10 a11 a12 a13 a14 a15 a16 a17 a18 a19 a20 :=
  pk_loop (σ := (Nat → Int32) × (Nat → Int32)) (fun n i s => wX_forgetNumbers_54 post f1 f2 f3 f4 f5 f6 n (nI i) a1 a2 a3 a4 a5 a6 a7 a8 a9 a10 a11 a12 a13 s.1 s.2 a16 a17 a18 a19 a20) (fun i s => aq_R u v fc (aq_for (fun f m => aq_s (aq_s m (52 + f) 0) (56 + f) 0) m i) l (f1, f2, f3, f4, f5, f6, a1, a2, a3, a4, a5, a6, a7, a8, a9, a10, a11, a12, a13, s.1, s.2, a16, a17, a18, a19, a20)) 3 0 (a14, a15) (by omega) hR
    (fun n s hs => pk_le 3 3 (fun _ => hk _ hs) (fun z => absurd z (by omega)))
    (fun n i s hi hs hw => pk_le 3 i (fun z => absurd z (by omega)) (fun _ => ⟨pk_in i 3 hi, nm_e ⟨pk_in i 3 hi, nm_e (nm_r (nI_1 i) (hw (_, _) (aq_w_a15 (aq_w_a14 hs hi (by decide) (aq_c (by omega)) rfl) hi (by decide) (aq_c (by omega)) rfl)))⟩⟩))
theorem aq_W_fg27 {post : St2 → Prop} {u v : Int32} {fc m l : Nat} {f1 f2 f3 f4 f5 f6 : Int32} {a1 a2 a3 a4 a5 a6 a7 a8 a9 a10 a11 a12 a13 a14 a15 a16 a17 a18 a19 a20 : Nat → Int32} (hR : aq_R u v fc m l (f1, f2, f3, f4, f5, f6, a1, a2, a3, a4, a5, a6, a7, a8, a9, a10, a11, a12, a13, a14, a15, a16, a17, a18, a19, a20)) (hk : ∀ s t, aq_R u v fc (aq_for (fun p m => aq_s (aq_s m (24 + p) 0) (32 + p) 0) m 4) l (f1, f2, f3, f4, f5, f6, a1, s, a3, t, a5, a6, a7, a8, a9, a10, a11, a12, a13, a14, a15, a16, a17, a18, a19, a20) → ∃ n, wX_forgetNumbers_54 post f1 f2 f3 f4 f5 f6 n 0 a1 s a3 t a5 a6 a7 a8 a9 a10 a11 a12 a13 a14 a15 a16 a17 a18 a19 a20) : ∃ n, wX_forgetNumbers_27 post f1 f2 f3 f4 f5 f6 n 0 a1 a2 a3 a4 a5 a6 a7 a8 a9 a10 a11 a12 a13 a14 a15 a16 a17 a18 a19 a20 :=
  pk_loop (σ := (Nat → Int32) × (Nat → Int32)) (fun n i s => wX_forgetNumbers_27 post f1 f2 f3 f4 f5 f6 n (nI i) a1 s.1 a3 s.2 a5 a6 a7 a8 a9 a10 a11 a12 a13 a14 a15 a16 a17 a18 a19 a20) (fun i s => aq_R u v fc (aq_for (fun p m => aq_s (aq_s m (24 + p) 0) (32 + p) 0) m i) l (f1, f2, f3, f4, f5, f6, a1, s.1, a3, s.2, a5, a6, a7, a8, a9, a10, a11, a12, a13, a14, a15, a16, a17, a18, a19, a20)) 4 0 (a2, a4) (by omega) hR
    (fun n s hs => pk_le 4 4 (fun _ => hk _ _ hs) (fun z => absurd z (by omega)))
    (fun n i s hi hs hw => pk_le 4 i (fun z => absurd z (by omega)) (fun _ => ⟨pk_in i 4 hi, nm_e ⟨pk_in i 4 hi, nm_e (nm_r (nI_1 i) (hw (_, _) (aq_w_a4 (aq_w_a2 hs hi (by decide) (aq_c (by omega)) rfl) hi (by decide) (aq_c (by omega)) rfl)))⟩⟩))
theorem aq_W_fg7 {post : St2 → Prop} {u v : Int32} {fc m l : Nat} {f1 f2 f3 f4 f5 f6 : Int32} {a1 a2 a3 a4 a5 a6 a7 a8 a9 a10 a11 a12 a13 a14 a15 a16 a17 a18 a19 a20 : Nat → Int32} (hR : aq_R u v fc m l (f1, f2, f3, f4, f5, f6, a1, a2, a3, a4, a5, a6, a7, a8, a9, a10, a11, a12, a13, a14, a15, a16, a17, a18, a19, a20)) (hk : ∀ s, aq_R u v fc (aq_for (fun t m => aq_s m (28 + t) 0) m 3) l (f1, f2, f3, f4, f5, f6, a1, a2, s, a4, a5, a6, a7, a8, a9, a10, a11, a12, a13, a14, a15, a16, a17, a18, a19, a20) → ∃ n, wX_forgetNumbers_27 post f1 f2 f3 f4 f5 f6 n 0 a1 a2 s a4 a5 a6 a7 a8 a9 a10 a11 a12 a13 a14 a15 a16 a17 a18 a19 a20) : ∃ n, wX_forgetNumbers_7 post f1 f2 f3 f4 f5 f6 n 0 a1 a2 a3 a4 a5 a6 a7 a8 a9 a10 a11 a12 a13 a14 a15 a16 a17 a18 a19 a20 :=
  pk_loop (fun n i s => wX_forgetNumbers_7 post f1 f2 f3 f4 f5 f6 n (nI i) a1 a2 s a4 a5 a6 a7 a8 a9 a10 a11 a12 a13 a14 a15 a16 a17 a18 a19 a20) (fun i s => aq_R u v fc (aq_for (fun t m => aq_s m (28 + t) 0) m i) l (f1, f2, f3, f4, f5, f6, a1, a2, s, a4, a5, a6, a7, a8, a9, a10, a11, a12, a13, a14, a15, a16, a17, a18, a19, a20)) 3 0 a3 (by omega) hR
    (fun n s hs => pk_le 3 3 (fun _ => hk s hs) (fun z => absurd z (by omega)))
    (fun n i s hi hs hw => pk_le 3 i (fun z => absurd z (by omega)) (fun _ => ⟨pk_in i 3 hi, nm_e (nm_r (nI_1 i) (hw _ (aq_w_a3 hs hi (by decide) (aq_c (by omega)) rfl)))⟩))
theorem aq_W_fg {post : St2 → Prop} {u v : Int32} {fc m l : Nat} {U : St2} {k : Nat → Nat → Bool} (h : aq_fg m l k = true) (hR : aq_R u v fc m l U)
    (hk : ∀ m' l' U', k m' l' = true → aq_R u v fc m' l' U' → post U') : wpX_forgetNumbers post U := by
  obtain ⟨f1, f2, f3, f4, f5, f6, a1, a2, a3, a4, a5, a6, a7, a8, a9, a10, a11, a12, a13, a14, a15, a16, a17, a18, a19, a20⟩ := U
  have h := aq_zE h
  have h := aq_zE h
  have h := aq_zE h
  exact aq_W_fg7 (aq_w_f2 (x := 0) (y := 0) hR (by decide) rfl) (fun s hs => aq_W_fg27 hs (fun s t hs => aq_W_fg54 hs (fun U' hU => hk _ _ _ h hU)))
theorem aq_W_cl {post : St2 → Prop} {u v : Int32} {fc m l : Nat} {U : St2} {k : Nat → Nat → Bool} (h : aq_cl fc m l k = true) (hR : aq_R u v fc m l U)
    (hk : ∀ m' l' U', k m' l' = true → aq_R u v fc m' l' U' → post U') : wpX_clearLog post U := by
  obtain ⟨f1, f2, f3, f4, f5, f6, a1, a2, a3, a4, a5, a6, a7, a8, a9, a10, a11, a12, a13, a14, a15, a16, a17, a18, a19, a20⟩ := U
  refine ⟨4, aq_W_waL (fun m1 l1 U1 h1 hR1 => ?_) 4 0 _ _ _ _ _ _ _ _ _ _ _ _ _ _ _ _ _ _ _ _ _ _ _ _ _ _ _ _ h hR (by omega)⟩
  obtain ⟨f1x, f2x, f3x, f4x, f5x, f6x, a1x, a2x, a3x, a4x, a5x, a6x, a7x, a8x, a9x, a10x, a11x, a12x, a13x, a14x, a15x, a16x, a17x, a18x, a19x, a20x⟩ := U1
  have h1 := aq_zE h1
  refine aq_W_fg h1 (aq_w_f1 (x := 0) (y := 0) (aq_w_f3 (x := 0) (y := 0) hR1 (by decide) rfl) (by decide) rfl) (fun m2 l2 U2 h2 hR2 => ?_)
  obtain ⟨f1y, f2y, f3y, f4y, f5y, f6y, a1y, a2y, a3y, a4y, a5y, a6y, a7y, a8y, a9y, a10y, a11y, a12y, a13y, a14y, a15y, a16y, a17y, a18y, a19y, a20y⟩ := U2
  exact hk _ _ _ h2 hR2
theorem aq_W_rsL {post : St2 → Prop} {u v : Int32} {fc : Nat} {k : Nat → Nat → Bool}
    (hk : ∀ m' l' U', k m' l' = true → aq_R u v fc m' l' U' → post U') : ∀ w t m l f1 f2 f3 f4 f5 f6 a1 a2 a3 a4 a5 a6 a7 a8 a9 a10 a11 a12 a13 a14 a15 a16 a17 a18 a19 a20, aq_rsL fc k w t m l = true → aq_R u v fc m l (f1, f2, f3, f4, f5, f6, a1, a2, a3, a4, a5, a6, a7, a8, a9, a10, a11, a12, a13, a14, a15, a16, a17, a18, a19, a20) → t < 2 ^ 24 → wX_restart_15 post w (nI t) f1 f2 f3 f4 f5 f6 a1 a2 a3 a4 a5 a6 a7 a8 a9 a10 a11 a12 a13 a14 a15 a16 a17 a18 a19 a20 := by
  intro w
  induction w with
  | zero => intros; rename_i h _ _; exact absurd h Bool.false_ne_true
  | succ w ih =>
    intro t m l f1 f2 f3 f4 f5 f6 a1 a2 a3 a4 a5 a6 a7 a8 a9 a10 a11 a12 a13 a14 a15 a16 a17 a18 a19 a20 h hR htt
    have et : (nI t).toNatClampNeg = t := aq_c (by omega)
    have e6 := aq_r_f6 hR
    rcases aq_ifle h with ⟨z, h⟩ | ⟨z, h⟩
    · refine br_t (nI_le (a := 3) z (by omega)) ?_
      rcases aq_ifle h with ⟨z2, h⟩ | ⟨z2, h⟩
      · exact br_t (by rw [e6.1, show aq_g m 4 = 0 by omega]; decide) (hk _ _ _ h hR)
      refine br_f (by rw [e6.1]; exact nI_nle (by omega) (by omega)) ?_
      refine aq_W_cl h hR (fun m1 l1 U1 h1 hR1 => ?_)
      obtain ⟨f1x, f2x, f3x, f4x, f5x, f6x, a1x, a2x, a3x, a4x, a5x, a6x, a7x, a8x, a9x, a10x, a11x, a12x, a13x, a14x, a15x, a16x, a17x, a18x, a19x, a20x⟩ := U1
      exact hk _ _ _ h1 hR1
    have ht : t < 3 := by omega
    have e19 := aq_r_a19 hR t ht
    refine br_f (nI_ge (b := 3) z (by omega)) ⟨pk_in t 3 ht, ?_⟩
    rcases aq_ifeq h with ⟨z2, h⟩ | ⟨z2, h⟩
    · exact br_t (by rw [et, e19.1, z2]; rfl) (nm_r (nI_1 t) (ih _ _ _ _ _ _ _ _ _ _ _ _ _ _ _ _ _ _ _ _ _ _ _ _ _ _ _ _ _ h hR (by omega)))
    refine br_f (by rw [et, e19.1]; exact nI_ne0 (by omega) (by omega)) ?_
    rcases aq_ifle h with ⟨z3, h⟩ | ⟨z3, h⟩
    · refine br_t (by rw [e6.1]; exact nI_lt (a := 0) (by omega) (by omega)) ?_
      refine aq_W_un (q := 0) h hR ht (by decide) rfl (fun r m1 l1 U1 h1 hR1 => ?_)
      obtain ⟨f1x, f2x, f3x, f4x, f5x, f6x, a1x, a2x, a3x, a4x, a5x, a6x, a7x, a8x, a9x, a10x, a11x, a12x, a13x, a14x, a15x, a16x, a17x, a18x, a19x, a20x⟩ := U1
      have e6 := aq_r_f6 hR1
      have e19 := aq_r_a19 hR1 t ht
      rcases aq_ifle h1 with ⟨z4, h1⟩ | ⟨z4, h1⟩
      · refine br_t (by rw [e6.1]; exact nI_lt (a := 0) (by omega) (by omega)) ⟨pk_in t 3 ht, ?_⟩
        refine aq_W_app (kd := 3) (c := 0) h1 hR1 (by decide) ht (by decide) (by decide) (by decide) e19.2 (aq_v0 u v).symm (aq_v0 u v).symm (by rw [et]; exact e19.1) (fun m2 l2 U2 h2 hR2 => ?_)
        obtain ⟨f1y, f2y, f3y, f4y, f5y, f6y, a1y, a2y, a3y, a4y, a5y, a6y, a7y, a8y, a9y, a10y, a11y, a12y, a13y, a14y, a15y, a16y, a17y, a18y, a19y, a20y⟩ := U2
        refine ⟨pk_in t 3 ht, nm_e (nm_r (nI_1 t) ?_)⟩
        exact ih _ _ _ _ _ _ _ _ _ _ _ _ _ _ _ _ _ _ _ _ _ _ _ _ _ _ _ _ _ (aq_zE h2 :) (aq_w_a19 hR2 ht (by decide) et rfl) (by omega)
      · exact br_f (by rw [e6.1, show aq_g m1 4 = 0 by omega]; decide) (nm_r (nI_1 t) (ih _ _ _ _ _ _ _ _ _ _ _ _ _ _ _ _ _ _ _ _ _ _ _ _ _ _ _ _ _ h1 hR1 (by omega)))
    · exact br_f (by rw [e6.1, show aq_g m 4 = 0 by omega]; decide) (nm_r (nI_1 t) (ih _ _ _ _ _ _ _ _ _ _ _ _ _ _ _ _ _ _ _ _ _ _ _ _ _ _ _ _ _ h hR (by omega)))
theorem aq_W_rs {post : St2 → Prop} {u v p0 : Int32} {fc m l n : Nat} {U : St2} {k : Nat → Nat → Bool} (h : aq_rs fc m l n k = true) (hR : aq_R u v fc m l U) (hn : n < 16777216) (g0 : p0 = nI n)
    (hk : ∀ m' l' U', k m' l' = true → aq_R u v fc m' l' U' → post U') : wpX_restart post U p0 := by
  obtain ⟨f1, f2, f3, f4, f5, f6, a1, a2, a3, a4, a5, a6, a7, a8, a9, a10, a11, a12, a13, a14, a15, a16, a17, a18, a19, a20⟩ := U
  have h := aq_zE h
  unfold wpX_restart
  refine aq_W_fl h (aq_w_f6 hR hn g0) (fun m1 l1 U1 h1 hR1 => ?_)
  obtain ⟨f1x, f2x, f3x, f4x, f5x, f6x, a1x, a2x, a3x, a4x, a5x, a6x, a7x, a8x, a9x, a10x, a11x, a12x, a13x, a14x, a15x, a16x, a17x, a18x, a19x, a20x⟩ := U1
  refine aq_W_da h1 hR1 (fun m2 l2 U2 h2 hR2 => ?_)
  obtain ⟨f1y, f2y, f3y, f4y, f5y, f6y, a1y, a2y, a3y, a4y, a5y, a6y, a7y, a8y, a9y, a10y, a11y, a12y, a13y, a14y, a15y, a16y, a17y, a18y, a19y, a20y⟩ := U2
  exact ⟨4, aq_W_rsL hk 4 0 _ _ _ _ _ _ _ _ _ _ _ _ _ _ _ _ _ _ _ _ _ _ _ _ _ _ _ _ h2 hR2 (by omega)⟩
theorem aq_W_cr {post : Int32 → St2 → Prop} {u v : Int32} {fc m l : Nat} {U : St2} {k : Nat → Nat → Nat → Bool} (h : aq_cr fc m l k = true) (hR : aq_R u v fc m l U)
    (hk : ∀ r m' l' U', k r m' l' = true → aq_R u v fc m' l' U' → post (nI r) U') : wpX_crash post U := by
  obtain ⟨f1, f2, f3, f4, f5, f6, a1, a2, a3, a4, a5, a6, a7, a8, a9, a10, a11, a12, a13, a14, a15, a16, a17, a18, a19, a20⟩ := U
  have h := aq_zE h
  unfold wpX_crash
  refine aq_W_rc hR ?_
  refine aq_W_lose h hR (fun m1 l1 U1 h1 hR1 => ?_)
  obtain ⟨f1x, f2x, f3x, f4x, f5x, f6x, a1x, a2x, a3x, a4x, a5x, a6x, a7x, a8x, a9x, a10x, a11x, a12x, a13x, a14x, a15x, a16x, a17x, a18x, a19x, a20x⟩ := U1
  refine aq_W_rs (n := 100000) h1 hR1 (by decide) rfl (fun m2 l2 U2 h2 hR2 => ?_)
  obtain ⟨f1y, f2y, f3y, f4y, f5y, f6y, a1y, a2y, a3y, a4y, a5y, a6y, a7y, a8y, a9y, a10y, a11y, a12y, a13y, a14y, a15y, a16y, a17y, a18y, a19y, a20y⟩ := U2
  exact hk _ _ _ _ h2 hR2
theorem aq_W_cr2 {post : Int32 → St2 → Prop} {u v p0 : Int32} {fc m l n : Nat} {U : St2} {k : Nat → Nat → Nat → Bool} (h : aq_cr2 fc m l n k = true) (hR : aq_R u v fc m l U) (hn : n ≤ 40) (g0 : (0 ≤ p0 ∧ p0 ≤ 40 ∧ p0 = nI n) ∨ (0 ≤ p0 ∧ ¬ p0 ≤ 40 ∧ n = 40) ∨ (¬ 0 ≤ p0 ∧ n = 0))
    (hk : ∀ r m' l' U', k r m' l' = true → aq_R u v fc m' l' U' → post (nI r) U') : wpX_crashTwice post U p0 := by
  obtain ⟨f1, f2, f3, f4, f5, f6, a1, a2, a3, a4, a5, a6, a7, a8, a9, a10, a11, a12, a13, a14, a15, a16, a17, a18, a19, a20⟩ := U
  have h := aq_zE h
  unfold wpX_crashTwice
  refine aq_W_rc hR ?_
  refine aq_W_lose h hR (fun m1 l1 U1 h1 hR1 => ?_)
  obtain ⟨f1x, f2x, f3x, f4x, f5x, f6x, a1x, a2x, a3x, a4x, a5x, a6x, a7x, a8x, a9x, a10x, a11x, a12x, a13x, a14x, a15x, a16x, a17x, a18x, a19x, a20x⟩ := U1
  have main : ∀ z0 : Int32, z0 = nI n → wX_crashTwice_30 post (nI (aq_rc m 3)) z0 f1x f2x f3x f4x f5x f6x a1x a2x a3x a4x a5x a6x a7x a8x a9x a10x a11x a12x a13x a14x a15x a16x a17x a18x a19x a20x := by
    intro z0 hz
    unfold wX_crashTwice_30
    refine aq_W_rs h1 hR1 (by omega) hz (fun m2 l2 U2 h2 hR2 => ?_)
    obtain ⟨f1y, f2y, f3y, f4y, f5y, f6y, a1y, a2y, a3y, a4y, a5y, a6y, a7y, a8y, a9y, a10y, a11y, a12y, a13y, a14y, a15y, a16y, a17y, a18y, a19y, a20y⟩ := U2
    refine aq_W_lose h2 hR2 (fun m3 l3 U3 h3 hR3 => ?_)
    obtain ⟨f1z, f2z, f3z, f4z, f5z, f6z, a1z, a2z, a3z, a4z, a5z, a6z, a7z, a8z, a9z, a10z, a11z, a12z, a13z, a14z, a15z, a16z, a17z, a18z, a19z, a20z⟩ := U3
    refine aq_W_rs (n := 100000) h3 hR3 (by decide) rfl (fun m4 l4 U4 h4 hR4 => ?_)
    obtain ⟨f1w, f2w, f3w, f4w, f5w, f6w, a1w, a2w, a3w, a4w, a5w, a6w, a7w, a8w, a9w, a10w, a11w, a12w, a13w, a14w, a15w, a16w, a17w, a18w, a19w, a20w⟩ := U4
    exact hk _ _ _ _ h4 hR4
  rcases g0 with ⟨g1, g2, g3⟩ | ⟨g1, g2, g3⟩ | ⟨g1, g2⟩
  · exact br_t g1 (br_t g2 (main _ g3))
  · exact br_t g1 (br_f g2 (main _ (by rw [g3]; rfl)))
  · exact br_f g1 (main _ (by rw [g2]; rfl))
end
section
theorem aq_W_wrb' {post : Int32 → St2 → Prop} {u v x p1 : Int32} {fc m l t c e : Nat} {U : St2} (h : aq_ck m t c = e) (h0 : ¬ - nI e = 0) (hR : aq_R u v fc m l U) (ht : t < 3) (hc : c < 16) (g1 : p1 = nI c) (hp : post (- nI e) U) : wpX_write post U (nI t) p1 x := by
  subst g1
  exact aq_W_wrb h h0 hR ht hc hp
theorem aq_W_rd' {post : Int32 → St2 → Prop} {u v p1 : Int32} {fc m l c : Nat} {U : St2} {k : Nat → Nat → Nat → Bool} (h : aq_rd fc m l c k = true) (hR : aq_R u v fc m l U) (hc : c < 16) (g1 : p1 = nI c)
    (hk : ∀ x m' l' U', k x m' l' = true → x < 16777216 → aq_R u v fc m' l' U' → post (aq_v u v x) U') : wpX_read post U p1 := by
  subst g1
  exact aq_W_rd h hR hc hk
theorem aq_W_add' {post : Int32 → St2 → Prop} {u v p1 p2 : Int32} {fc m l t c x : Nat} {U : St2} {k : Nat → Nat → Nat → Bool} (h : aq_add fc m l t c x k = true) (hR : aq_R u v fc m l U) (ht : t < 3) (hc : c < 16) (g1 : p1 = nI c) (g2 : p2 = aq_v u v x)
    (hk : ∀ r m' l' U', k r m' l' = true → aq_R u v fc m' l' U' → post (nI r) U') : wpX_add post U (nI t) p1 p2 := by
  subst g1
  exact aq_W_add h hR ht hc g2 hk
theorem aq_kv0 : aq_kv 0 = 0 := rfl
theorem aq_kv1 {e : Nat} (h : e ≠ 0) : aq_kv e = 256 := aq_bf h
theorem aq_m15 {a b : Nat} (h : a + b < 2 ^ 32) : (nI a + nI b) &&& 15 = nI ((a + b) % 16) := by
  rw [nI_add]
  exact pk_andN h 4 (by decide)
theorem aq_five0 : ∀ b, b < 16 → ((((31 : Int32) <<< (nI b &&& 31)) ||| (((31 : Int32) <<< (nI b &&& 31)) >>> ((16 : Int32) &&& 31))) &&& 65535) = nI (aq_five b) := by decide +kernel
theorem aq_L_629 {post : Int32 → St0 → Prop} {mc ms kc ks : Nat} {u v : Int32} {fc b q e : Nat} (hp : post 1 ()) (hb : b < 16) (hq : q < 16) (he : e < 2) : ∀ w c m l f1 f2 f3 f4 f5 f6 a1 a2 a3 a4 a5 a6 a7 a8 a9 a10 a11 a12 a13 a14 a15 a16 a17 a18 a19 a20, aq_cells fc b q e w c m l = true → aq_R u v fc m l (f1, f2, f3, f4, f5, f6, a1, a2, a3, a4, a5, a6, a7, a8, a9, a10, a11, a12, a13, a14, a15, a16, a17, a18, a19, a20) → c < 9 → wL_lawOf_629 post mc ms v (nI b) (nI q) (nI e) kc ks w (nI c) f1 f2 f3 f4 f5 f6 a1 a2 a3 a4 a5 a6 a7 a8 a9 a10 a11 a12 a13 a14 a15 a16 a17 a18 a19 a20 := by
  intro w
  induction w with
  | zero => intros; rename_i h _ _; exact absurd h Bool.false_ne_true
  | succ w ih =>
    intro c m l f1 f2 f3 f4 f5 f6 a1 a2 a3 a4 a5 a6 a7 a8 a9 a10 a11 a12 a13 a14 a15 a16 a17 a18 a19 a20 h hR hc
    rcases aq_ifle h with ⟨z, h⟩ | ⟨z, h⟩
    · refine br_t (nI_le (a := 8) z (by omega)) ?_
      obtain ⟨z1, h⟩ := aq_andeq h
      refine aq_W_wrb (t := 0) z1 (by decide) hR (by decide) hb ?_
      refine br_t (by decide) ?_
      refine aq_W_beg (t := 0) h hR (by decide) (fun m1 l1 U1 h1 hR1 => ?_)
      obtain ⟨f1r, f2r, f3r, f4r, f5r, f6r, a1r, a2r, a3r, a4r, a5r, a6r, a7r, a8r, a9r, a10r, a11r, a12r, a13r, a14r, a15r, a16r, a17r, a18r, a19r, a20r⟩ := U1
      refine br_t rfl ?_
      refine aq_W_add (t := 0) h1 hR1 (by decide) hb (aq_vv u v).symm (fun r m2 l2 U2 h2 hR2 => ?_)
      obtain ⟨f1s, f2s, f3s, f4s, f5s, f6s, a1s, a2s, a3s, a4s, a5s, a6s, a7s, a8s, a9s, a10s, a11s, a12s, a13s, a14s, a15s, a16s, a17s, a18s, a19s, a20s⟩ := U2
      obtain ⟨z2, h2⟩ := aq_andeq h2
      refine br_t (by rw [z2]; rfl) ?_
      refine aq_W_com (t := 0) h2 hR2 (by decide) (fun r m3 l3 U3 h3 hR3 => ?_)
      obtain ⟨f1t, f2t, f3t, f4t, f5t, f6t, a1t, a2t, a3t, a4t, a5t, a6t, a7t, a8t, a9t, a10t, a11t, a12t, a13t, a14t, a15t, a16t, a17t, a18t, a19t, a20t⟩ := U3
      obtain ⟨z3, h3⟩ := aq_andeq h3
      refine br_t (by rw [z3]; rfl) ?_
      refine aq_W_cr h3 hR3 (fun r m4 l4 U4 h4 hR4 => ?_)
      obtain ⟨f1x, f2x, f3x, f4x, f5x, f6x, a1x, a2x, a3x, a4x, a5x, a6x, a7x, a8x, a9x, a10x, a11x, a12x, a13x, a14x, a15x, a16x, a17x, a18x, a19x, a20x⟩ := U4
      obtain ⟨z4, h4⟩ := aq_andeq h4
      refine br_t (by rw [z4]; rfl) ?_
      refine aq_W_rd h4 hR4 hb (fun x m5 l5 U5 h5 hx hR5 => ?_)
      obtain ⟨f1y, f2y, f3y, f4y, f5y, f6y, a1y, a2y, a3y, a4y, a5y, a6y, a7y, a8y, a9y, a10y, a11y, a12y, a13y, a14y, a15y, a16y, a17y, a18y, a19y, a20y⟩ := U5
      have z5 : x = 256 := Nat.eq_of_beq_eq_true h5
      exact br_t (by rw [z5]; exact aq_vv u v) hp
    · refine br_f (nI_ge (b := 8) z (by omega)) ?_
      refine aq_W_rd h hR (by omega) (fun x m1 l1 U1 h1 hx hR1 => ?_)
      obtain ⟨f1x, f2x, f3x, f4x, f5x, f6x, a1x, a2x, a3x, a4x, a5x, a6x, a7x, a8x, a9x, a10x, a11x, a12x, a13x, a14x, a15x, a16x, a17x, a18x, a19x, a20x⟩ := U1
      obtain ⟨z1, h1⟩ := aq_andeq h1
      have t := fun J => ih (c + 1) m1 l1 _ _ _ _ _ _ _ _ _ _ _ _ _ _ _ _ _ _ _ _ _ _ _ _ _ _ h1 hR1 J
      refine pk_eq e 0 (fun ze => ?_) (fun ze => ?_)
      · refine br_t ?_ (nm_r (nI_1 c) (t (by omega)))
        have z2 : x = 0 := by rw [z1, ze, aq_kv0]; cases Nat.beq c q <;> rfl
        rw [z2]
        exact aq_v0 u v
      · refine pk_eq c q (fun zc => ?_) (fun zc => ?_)
        · refine br_t ?_ (nm_r (nI_1 c) (t (by omega)))
          rw [z1, aq_bt zc, aq_kv1 ze]
          exact aq_vv u v
        · refine br_t ?_ (nm_r (nI_1 c) (t (by omega)))
          rw [z1, aq_bf zc]
          exact aq_v0 u v
theorem aq_L_578 {post : Int32 → St0 → Prop} {mc ms kc ks : Nat} {u v : Int32} {fc b q e r m l : Nat} {f1 f2 f3 f4 f5 f6 : Int32} {a1 a2 a3 a4 a5 a6 a7 a8 a9 a10 a11 a12 a13 a14 a15 a16 a17 a18 a19 a20 : Nat → Int32} (hp : post 1 ()) (hb : b < 16) (hq : q < 16) (he : e < 2) (h : aq_tail fc b q e r m l = true) (hR : aq_R u v fc m l (f1, f2, f3, f4, f5, f6, a1, a2, a3, a4, a5, a6, a7, a8, a9, a10, a11, a12, a13, a14, a15, a16, a17, a18, a19, a20)) : wL_lawOf_578 post mc ms v (nI b) (nI q) (nI e) (nI r) kc ks f1 f2 f3 f4 f5 f6 a1 a2 a3 a4 a5 a6 a7 a8 a9 a10 a11 a12 a13 a14 a15 a16 a17 a18 a19 a20 := by
  obtain ⟨z, h⟩ := aq_andeq h
  refine br_t (by rw [z]; rfl) ?_
  refine aq_W_rd h hR hq (fun x m1 l1 U1 h1 hx hR1 => ?_)
  obtain ⟨f1x, f2x, f3x, f4x, f5x, f6x, a1x, a2x, a3x, a4x, a5x, a6x, a7x, a8x, a9x, a10x, a11x, a12x, a13x, a14x, a15x, a16x, a17x, a18x, a19x, a20x⟩ := U1
  obtain ⟨z1, h1⟩ := aq_andeq h1
  have main : ∀ z0, z0 = aq_v u v x → wL_lawOf_603 post mc ms v (nI b) (nI q) (nI e) z0 (aq_v u v x) kc ks f1x f2x f3x f4x f5x f6x a1x a2x a3x a4x a5x a6x a7x a8x a9x a10x a11x a12x a13x a14x a15x a16x a17x a18x a19x a20x := by
    intro z0 hz
    refine br_t hz.symm ?_
    refine aq_W_rd h1 hR1 hb (fun y m2 l2 U2 h2 hy hR2 => ?_)
    obtain ⟨f1y, f2y, f3y, f4y, f5y, f6y, a1y, a2y, a3y, a4y, a5y, a6y, a7y, a8y, a9y, a10y, a11y, a12y, a13y, a14y, a15y, a16y, a17y, a18y, a19y, a20y⟩ := U2
    obtain ⟨z2, h2⟩ := aq_andeq h2
    refine br_t (by rw [z2]; exact aq_v0 u v) ?_
    refine aq_W_chk h2 hR2 (fun r m3 l3 U3 h3 hR3 => ?_)
    obtain ⟨f1z, f2z, f3z, f4z, f5z, f6z, a1z, a2z, a3z, a4z, a5z, a6z, a7z, a8z, a9z, a10z, a11z, a12z, a13z, a14z, a15z, a16z, a17z, a18z, a19z, a20z⟩ := U3
    obtain ⟨z3, h3⟩ := aq_andeq h3
    refine br_t (by rw [z3]; rfl) ⟨9, ?_⟩
    exact aq_L_629 hp hb hq he 9 0 m3 l3 _ _ _ _ _ _ _ _ _ _ _ _ _ _ _ _ _ _ _ _ _ _ _ _ _ _ h3 hR3 (by omega)
  exact pk_eq e 0 (fun ze => main _ (by rw [z1, ze]; exact (aq_v0 u v).symm)) (fun ze => main _ (by rw [z1, aq_kv1 ze]; exact (aq_vv u v).symm))
theorem aq_clamp (p : Int32) : ∃ n, n ≤ 40 ∧ ((0 ≤ p ∧ p ≤ 40 ∧ p = nI n) ∨ (0 ≤ p ∧ ¬ p ≤ 40 ∧ n = 40) ∨ (¬ 0 ≤ p ∧ n = 0)) := by
  by_cases h0 : p < 0
  · exact ⟨0, by omega, Or.inr (Or.inr ⟨Int32.not_le.mpr h0, rfl⟩)⟩
  · by_cases h1 : p ≤ 40
    · obtain ⟨j, hj, e⟩ := nI_of2 (M := 40) (n := 40) (by decide) h0 h1
      exact ⟨j, hj, Or.inl ⟨Int32.not_lt.mp h0, h1, e⟩⟩
    · exact ⟨40, by omega, Or.inr (Or.inl ⟨Int32.not_lt.mp h0, h1, rfl⟩)⟩
theorem aq_L_487 {post : Int32 → St0 → Prop} {mc ms kc ks : Nat} {u v how : Int32} {fc b q e r m l : Nat} {f1 f2 f3 f4 f5 f6 : Int32} {a1 a2 a3 a4 a5 a6 a7 a8 a9 a10 a11 a12 a13 a14 a15 a16 a17 a18 a19 a20 : Nat → Int32} (hp : post 1 ()) (hb : b < 16) (hq : q < 16) (he : e < 2) (h : aq_kept fc b q e r m l = true) (hR : aq_R u v fc m l (f1, f2, f3, f4, f5, f6, a1, a2, a3, a4, a5, a6, a7, a8, a9, a10, a11, a12, a13, a14, a15, a16, a17, a18, a19, a20)) : wL_lawOf_487 post mc ms u v how (nI b) (nI q) (nI e) (nI r) kc ks f1 f2 f3 f4 f5 f6 a1 a2 a3 a4 a5 a6 a7 a8 a9 a10 a11 a12 a13 a14 a15 a16 a17 a18 a19 a20 := by
  obtain ⟨z, h⟩ := aq_andeq h
  refine br_t (by rw [z]; rfl) ?_
  refine aq_W_rd h hR hq (fun x m1 l1 U1 h1 hx hR1 => ?_)
  obtain ⟨f1x, f2x, f3x, f4x, f5x, f6x, a1x, a2x, a3x, a4x, a5x, a6x, a7x, a8x, a9x, a10x, a11x, a12x, a13x, a14x, a15x, a16x, a17x, a18x, a19x, a20x⟩ := U1
  obtain ⟨z1, h1⟩ := aq_andeq h1
  have main : ∀ z0, z0 = aq_v u v x → wL_lawOf_508 post mc ms u v how (nI b) (nI q) (nI e) z0 (aq_v u v x) kc ks f1x f2x f3x f4x f5x f6x a1x a2x a3x a4x a5x a6x a7x a8x a9x a10x a11x a12x a13x a14x a15x a16x a17x a18x a19x a20x := by
    intro z0 hz
    refine br_t hz.symm ?_
    refine aq_W_wr (t := 2) h1 hR1 (by decide) hq (by decide) (aq_vu u v).symm (fun r m2 l2 U2 h2 hR2 => ?_)
    obtain ⟨f1y, f2y, f3y, f4y, f5y, f6y, a1y, a2y, a3y, a4y, a5y, a6y, a7y, a8y, a9y, a10y, a11y, a12y, a13y, a14y, a15y, a16y, a17y, a18y, a19y, a20y⟩ := U2
    obtain ⟨z2, h2⟩ := aq_andeq h2
    refine br_t (by rw [z2]; rfl) ?_
    refine aq_W_add (t := 2) h2 hR2 (by decide) hq (aq_vu u v).symm (fun r m3 l3 U3 h3 hR3 => ?_)
    obtain ⟨f1z, f2z, f3z, f4z, f5z, f6z, a1z, a2z, a3z, a4z, a5z, a6z, a7z, a8z, a9z, a10z, a11z, a12z, a13z, a14z, a15z, a16z, a17z, a18z, a19z, a20z⟩ := U3
    obtain ⟨z3, h3⟩ := aq_andeq h3
    refine br_t (by rw [z3]; rfl) ?_
    refine aq_W_rd h3 hR3 hq (fun y m4 l4 U4 h4 hy hR4 => ?_)
    obtain ⟨f1w, f2w, f3w, f4w, f5w, f6w, a1w, a2w, a3w, a4w, a5w, a6w, a7w, a8w, a9w, a10w, a11w, a12w, a13w, a14w, a15w, a16w, a17w, a18w, a19w, a20w⟩ := U4
    obtain ⟨z4, h4⟩ := aq_andeq h4
    refine br_t (by rw [z4]; exact aq_v2 u v) ?_
    obtain ⟨hc, ha⟩ := aq_and h4
    refine br_c (fun _ => ?_) (fun _ => ?_)
    · obtain ⟨n, hn, g0⟩ := aq_clamp (how >>> ((2 : Int32) &&& 31))
      refine aq_W_cr2 (aq_allE ha n (by omega)) hR4 hn g0 (fun r m5 l5 U5 h5 hR5 => ?_)
      obtain ⟨f1c, f2c, f3c, f4c, f5c, f6c, a1c, a2c, a3c, a4c, a5c, a6c, a7c, a8c, a9c, a10c, a11c, a12c, a13c, a14c, a15c, a16c, a17c, a18c, a19c, a20c⟩ := U5
      exact aq_L_578 hp hb hq he h5 hR5
    · refine aq_W_cr hc hR4 (fun r m5 l5 U5 h5 hR5 => ?_)
      obtain ⟨f1c, f2c, f3c, f4c, f5c, f6c, a1c, a2c, a3c, a4c, a5c, a6c, a7c, a8c, a9c, a10c, a11c, a12c, a13c, a14c, a15c, a16c, a17c, a18c, a19c, a20c⟩ := U5
      exact aq_L_578 hp hb hq he h5 hR5
  exact pk_eq e 0 (fun ze => main _ (by rw [z1, ze]; exact (aq_v0 u v).symm)) (fun ze => main _ (by rw [z1, aq_kv1 ze]; exact (aq_vv u v).symm))
theorem aq_L_465 {post : Int32 → St0 → Prop} {mc ms kc ks : Nat} {u v how : Int32} {fc b q e m l : Nat} {f1 f2 f3 f4 f5 f6 : Int32} {a1 a2 a3 a4 a5 a6 a7 a8 a9 a10 a11 a12 a13 a14 a15 a16 a17 a18 a19 a20 : Nat → Int32} (hp : post 1 ()) (hb : b < 16) (hq : q < 16) (he : e < 2) (h : aq_mid fc b q m l = true) (hR : aq_R u v fc m l (f1, f2, f3, f4, f5, f6, a1, a2, a3, a4, a5, a6, a7, a8, a9, a10, a11, a12, a13, a14, a15, a16, a17, a18, a19, a20)) : wL_lawOf_465 post mc ms u v how (nI b) (nI q) (nI e) kc ks f1 f2 f3 f4 f5 f6 a1 a2 a3 a4 a5 a6 a7 a8 a9 a10 a11 a12 a13 a14 a15 a16 a17 a18 a19 a20 := by
  obtain ⟨h0, h1⟩ := aq_and h
  refine pk_eq e 0 (fun ze => ?_) (fun ze => ?_)
  · refine aq_W_abo (t := 1) h0 hR (by decide) (fun r m' l' U' h' hR' => ?_)
    obtain ⟨f1x, f2x, f3x, f4x, f5x, f6x, a1x, a2x, a3x, a4x, a5x, a6x, a7x, a8x, a9x, a10x, a11x, a12x, a13x, a14x, a15x, a16x, a17x, a18x, a19x, a20x⟩ := U'
    rw [← ze] at h'
    exact aq_L_487 hp hb hq he h' hR'
  · refine aq_W_com (t := 1) h1 hR (by decide) (fun r m' l' U' h' hR' => ?_)
    obtain ⟨f1x, f2x, f3x, f4x, f5x, f6x, a1x, a2x, a3x, a4x, a5x, a6x, a7x, a8x, a9x, a10x, a11x, a12x, a13x, a14x, a15x, a16x, a17x, a18x, a19x, a20x⟩ := U'
    rw [show 1 = e by omega] at h'
    exact aq_L_487 hp hb hq he h' hR'
end
section
theorem aq_L_main {post : Int32 → St0 → Prop} {mc ms kc ks n : Nat} {u v how x7 : Int32} {fc b m l : Nat} {f1 f2 f3 f4 f5 f6 : Int32} {a1 a2 a3 a4 a5 a6 a7 a8 a9 a10 a11 a12 a13 a14 a15 a16 a17 a18 a19 a20 : Nat → Int32} (hp : post 1 ()) (hb : b < 16) (h7 : 5 ≤ x7) (h : aq_main fc b ((9 + b) % 16) ((8 + b) % 16) m l = true) (hR : aq_R u v fc m l (f1, f2, f3, f4, f5, f6, a1, a2, a3, a4, a5, a6, a7, a8, a9, a10, a11, a12, a13, a14, a15, a16, a17, a18, a19, a20)) : wL_lawOf_60 post mc ms u v how (nI b) kc ks (n + 1) x7 f1 f2 f3 f4 f5 f6 a1 a2 a3 a4 a5 a6 a7 a8 a9 a10 a11 a12 a13 a14 a15 a16 a17 a18 a19 a20 := by
  have e5 : ((5 : Int32) + nI b) &&& 15 = nI ((5 + b) % 16) := aq_m15 (a := 5) (by omega)
  have e8 : ((8 : Int32) + nI b) &&& 15 = nI ((8 + b) % 16) := aq_m15 (a := 8) (by omega)
  have e9 : ((9 : Int32) + nI b) &&& 15 = nI ((9 + b) % 16) := aq_m15 (a := 9) (by omega)
  have hb5 : (5 + b) % 16 < 16 := Nat.mod_lt _ (by decide)
  have hq : (9 + b) % 16 < 16 := Nat.mod_lt _ (by decide)
  have hi : (8 + b) % 16 < 16 := Nat.mod_lt _ (by decide)
  have ef := aq_five0 b hb
  revert h e8 e9 hq hi
  generalize (9 + b) % 16 = q
  generalize (8 + b) % 16 = i
  intro h e8 e9 hq hi
  refine br_t h7 (nm_r (aq_v46 u v).symm ?_)
  clear h7
  obtain ⟨z, h⟩ := aq_andeq h
  refine aq_W_wrb (t := 0) z (by decide) hR (by decide) hb ?_
  refine br_t (by decide) ?_
  clear z
  obtain ⟨z, h⟩ := aq_andeq h
  refine aq_W_wrb' (t := 0) z (by decide) hR (by decide) hb5 e5 ?_
  refine br_t (by decide) ?_
  clear z
  obtain ⟨z, h⟩ := aq_andeq h
  obtain ⟨y, h⟩ := aq_andeq h
  refine aq_W_ho (t := 0) hR (by decide) (fun w => absurd (w.symm.trans z) (by decide)) (fun _ => ?_)
  refine br_t (by rw [ef, ← y]) (nm_r e9 ?_)
  clear z y
  obtain ⟨z, h⟩ := aq_andeq h
  refine aq_W_wrb (t := 1) z (by decide) hR (by decide) hb ?_
  refine br_t (by decide) ?_
  clear z
  refine aq_W_wr (t := 1) h hR (by decide) hq (by decide) (aq_vv u v).symm (fun r m1 l1 U1 h1 hR1 => ?_)
  clear hR h f1 f2 f3 f4 f5 f6 a1 a2 a3 a4 a5 a6 a7 a8 a9 a10 a11 a12 a13 a14 a15 a16 a17 a18 a19 a20
  obtain ⟨f1x, f2x, f3x, f4x, f5x, f6x, a1x, a2x, a3x, a4x, a5x, a6x, a7x, a8x, a9x, a10x, a11x, a12x, a13x, a14x, a15x, a16x, a17x, a18x, a19x, a20x⟩ := U1
  obtain ⟨z, h1⟩ := aq_andeq h1
  refine br_t (by rw [z]; rfl) ?_
  clear z
  obtain ⟨z, h1⟩ := aq_andeq h1
  refine aq_W_wrb (t := 2) z (by decide) hR1 (by decide) hq ?_
  refine br_t (by decide) ?_
  clear z
  refine aq_W_mk (t := 1) h1 hR1 (by decide) (fun m2 l2 U2 h2 hR2 => ?_)
  clear hR1 h1 f1x f2x f3x f4x f5x f6x a1x a2x a3x a4x a5x a6x a7x a8x a9x a10x a11x a12x a13x a14x a15x a16x a17x a18x a19x a20x
  obtain ⟨f1y, f2y, f3y, f4y, f5y, f6y, a1y, a2y, a3y, a4y, a5y, a6y, a7y, a8y, a9y, a10y, a11y, a12y, a13y, a14y, a15y, a16y, a17y, a18y, a19y, a20y⟩ := U2
  refine br_t rfl ?_
  refine aq_W_wr (t := 1) h2 hR2 (by decide) hq (by decide) (aq_vu u v).symm (fun r m3 l3 U3 h3 hR3 => ?_)
  clear hR2 h2 f1y f2y f3y f4y f5y f6y a1y a2y a3y a4y a5y a6y a7y a8y a9y a10y a11y a12y a13y a14y a15y a16y a17y a18y a19y a20y
  obtain ⟨f1x, f2x, f3x, f4x, f5x, f6x, a1x, a2x, a3x, a4x, a5x, a6x, a7x, a8x, a9x, a10x, a11x, a12x, a13x, a14x, a15x, a16x, a17x, a18x, a19x, a20x⟩ := U3
  obtain ⟨z, h3⟩ := aq_andeq h3
  refine br_t (by rw [z]; rfl) ?_
  clear z
  refine aq_W_add' (t := 1) h3 hR3 (by decide) hi e8 (aq_vu u v).symm (fun r m4 l4 U4 h4 hR4 => ?_)
  clear hR3 h3 f1x f2x f3x f4x f5x f6x a1x a2x a3x a4x a5x a6x a7x a8x a9x a10x a11x a12x a13x a14x a15x a16x a17x a18x a19x a20x
  obtain ⟨f1y, f2y, f3y, f4y, f5y, f6y, a1y, a2y, a3y, a4y, a5y, a6y, a7y, a8y, a9y, a10y, a11y, a12y, a13y, a14y, a15y, a16y, a17y, a18y, a19y, a20y⟩ := U4
  obtain ⟨z, h4⟩ := aq_andeq h4
  refine br_t (by rw [z]; rfl) ?_
  clear z
  refine aq_W_back (t := 1) h4 hR4 (by decide) (fun r m5 l5 U5 h5 hR5 => ?_)
  clear hR4 h4 f1y f2y f3y f4y f5y f6y a1y a2y a3y a4y a5y a6y a7y a8y a9y a10y a11y a12y a13y a14y a15y a16y a17y a18y a19y a20y
  obtain ⟨f1x, f2x, f3x, f4x, f5x, f6x, a1x, a2x, a3x, a4x, a5x, a6x, a7x, a8x, a9x, a10x, a11x, a12x, a13x, a14x, a15x, a16x, a17x, a18x, a19x, a20x⟩ := U5
  obtain ⟨z, h5⟩ := aq_andeq h5
  refine br_t (by rw [z]; rfl) ?_
  clear z
  refine aq_W_rd h5 hR5 hq (fun r m6 l6 U6 h6 hr hR6 => ?_)
  clear hR5 h5 f1x f2x f3x f4x f5x f6x a1x a2x a3x a4x a5x a6x a7x a8x a9x a10x a11x a12x a13x a14x a15x a16x a17x a18x a19x a20x
  obtain ⟨f1y, f2y, f3y, f4y, f5y, f6y, a1y, a2y, a3y, a4y, a5y, a6y, a7y, a8y, a9y, a10y, a11y, a12y, a13y, a14y, a15y, a16y, a17y, a18y, a19y, a20y⟩ := U6
  obtain ⟨z, h6⟩ := aq_andeq h6
  refine br_t (by rw [z]; exact aq_vv u v) ?_
  clear z
  refine aq_W_rd' h6 hR6 hi e8 (fun r m7 l7 U7 h7 hr hR7 => ?_)
  clear hR6 h6 f1y f2y f3y f4y f5y f6y a1y a2y a3y a4y a5y a6y a7y a8y a9y a10y a11y a12y a13y a14y a15y a16y a17y a18y a19y a20y
  obtain ⟨f1x, f2x, f3x, f4x, f5x, f6x, a1x, a2x, a3x, a4x, a5x, a6x, a7x, a8x, a9x, a10x, a11x, a12x, a13x, a14x, a15x, a16x, a17x, a18x, a19x, a20x⟩ := U7
  obtain ⟨z, h7⟩ := aq_andeq h7
  refine br_t (by rw [z]; exact aq_v0 u v) ?_
  clear z
  obtain ⟨z, h7⟩ := aq_andeq h7
  refine aq_W_wrb' (t := 2) z (by decide) hR7 (by decide) hi e8 ?_
  refine br_t (by decide) ?_
  clear z
  refine aq_W_back (t := 1) h7 hR7 (by decide) (fun r m8 l8 U8 h8 hR8 => ?_)
  clear hR7 h7 f1x f2x f3x f4x f5x f6x a1x a2x a3x a4x a5x a6x a7x a8x a9x a10x a11x a12x a13x a14x a15x a16x a17x a18x a19x a20x
  obtain ⟨f1y, f2y, f3y, f4y, f5y, f6y, a1y, a2y, a3y, a4y, a5y, a6y, a7y, a8y, a9y, a10y, a11y, a12y, a13y, a14y, a15y, a16y, a17y, a18y, a19y, a20y⟩ := U8
  obtain ⟨z, h8⟩ := aq_andeq h8
  refine br_t (by rw [z]; rfl) ?_
  clear z
  refine aq_W_back (t := 0) h8 hR8 (by decide) (fun r m9 l9 U9 h9 hR9 => ?_)
  clear hR8 h8 f1y f2y f3y f4y f5y f6y a1y a2y a3y a4y a5y a6y a7y a8y a9y a10y a11y a12y a13y a14y a15y a16y a17y a18y a19y a20y
  obtain ⟨f1x, f2x, f3x, f4x, f5x, f6x, a1x, a2x, a3x, a4x, a5x, a6x, a7x, a8x, a9x, a10x, a11x, a12x, a13x, a14x, a15x, a16x, a17x, a18x, a19x, a20x⟩ := U9
  obtain ⟨z, h9⟩ := aq_andeq h9
  refine br_t (by rw [z]; rfl) ?_
  clear z
  refine aq_W_rd h9 hR9 hb (fun r m10 l10 U10 h10 hr hR10 => ?_)
  clear hR9 h9 f1x f2x f3x f4x f5x f6x a1x a2x a3x a4x a5x a6x a7x a8x a9x a10x a11x a12x a13x a14x a15x a16x a17x a18x a19x a20x
  obtain ⟨f1y, f2y, f3y, f4y, f5y, f6y, a1y, a2y, a3y, a4y, a5y, a6y, a7y, a8y, a9y, a10y, a11y, a12y, a13y, a14y, a15y, a16y, a17y, a18y, a19y, a20y⟩ := U10
  obtain ⟨z, h10⟩ := aq_andeq h10
  refine br_t (by rw [z]; exact aq_v0 u v) ?_
  clear z
  obtain ⟨z, h10⟩ := aq_andeq h10
  refine aq_W_wrb (t := 0) z (by decide) hR10 (by decide) hb ?_
  refine br_t (by decide) ?_
  clear z
  refine aq_W_com (t := 0) h10 hR10 (by decide) (fun r m11 l11 U11 h11 hR11 => ?_)
  clear hR10 h10 f1y f2y f3y f4y f5y f6y a1y a2y a3y a4y a5y a6y a7y a8y a9y a10y a11y a12y a13y a14y a15y a16y a17y a18y a19y a20y
  obtain ⟨f1x, f2x, f3x, f4x, f5x, f6x, a1x, a2x, a3x, a4x, a5x, a6x, a7x, a8x, a9x, a10x, a11x, a12x, a13x, a14x, a15x, a16x, a17x, a18x, a19x, a20x⟩ := U11
  obtain ⟨z, h11⟩ := aq_andeq h11
  refine br_t (by rw [z]; rfl) ?_
  clear z
  obtain ⟨z, h11⟩ := aq_andeq h11
  refine aq_W_comi (t := 0) z hR11 (by decide) ?_
  refine br_t rfl ?_
  refine aq_W_ho (t := 0) hR11 (by decide) (fun _ => ?_) (fun w => absurd z w)
  refine br_t rfl ?_
  clear z
  refine aq_W_beg (t := 0) h11 hR11 (by decide) (fun m12 l12 U12 h12 hR12 => ?_)
  clear hR11 h11 f1x f2x f3x f4x f5x f6x a1x a2x a3x a4x a5x a6x a7x a8x a9x a10x a11x a12x a13x a14x a15x a16x a17x a18x a19x a20x
  obtain ⟨f1y, f2y, f3y, f4y, f5y, f6y, a1y, a2y, a3y, a4y, a5y, a6y, a7y, a8y, a9y, a10y, a11y, a12y, a13y, a14y, a15y, a16y, a17y, a18y, a19y, a20y⟩ := U12
  refine br_t rfl ?_
  refine aq_W_wr (t := 0) h12 hR12 (by decide) hb (by decide) rfl (fun r m13 l13 U13 h13 hR13 => ?_)
  clear hR12 h12 f1y f2y f3y f4y f5y f6y a1y a2y a3y a4y a5y a6y a7y a8y a9y a10y a11y a12y a13y a14y a15y a16y a17y a18y a19y a20y
  obtain ⟨f1x, f2x, f3x, f4x, f5x, f6x, a1x, a2x, a3x, a4x, a5x, a6x, a7x, a8x, a9x, a10x, a11x, a12x, a13x, a14x, a15x, a16x, a17x, a18x, a19x, a20x⟩ := U13
  obtain ⟨z, h13⟩ := aq_andeq h13
  refine br_t (by rw [z]; rfl) ?_
  clear z
  refine aq_W_chk h13 hR13 (fun r m14 l14 U14 h14 hR14 => ?_)
  clear hR13 h13 f1x f2x f3x f4x f5x f6x a1x a2x a3x a4x a5x a6x a7x a8x a9x a10x a11x a12x a13x a14x a15x a16x a17x a18x a19x a20x
  obtain ⟨f1y, f2y, f3y, f4y, f5y, f6y, a1y, a2y, a3y, a4y, a5y, a6y, a7y, a8y, a9y, a10y, a11y, a12y, a13y, a14y, a15y, a16y, a17y, a18y, a19y, a20y⟩ := U14
  obtain ⟨z, h14⟩ := aq_andeq h14
  refine br_t (by rw [z]; rfl) ?_
  clear z
  exact br_c (fun _ => aq_L_465 (e := 0) hp hb hq (by decide) h14 hR14) (fun _ => aq_L_465 (e := 1) hp hb hq (by decide) h14 hR14)
theorem aq_L_69 {post : Int32 → St0 → Prop} {mc ms kc ks : Nat} {u v how : Int32} {fc b c : Nat} {k : Nat → Nat → Bool} {J : Int32 → Int32 → Int32 → Int32 → Int32 → Int32 → Int32 → (Nat → Int32) → (Nat → Int32) → (Nat → Int32) → (Nat → Int32) → (Nat → Int32) → (Nat → Int32) → (Nat → Int32) → (Nat → Int32) → (Nat → Int32) → (Nat → Int32) → (Nat → Int32) → (Nat → Int32) → (Nat → Int32) → (Nat → Int32) → (Nat → Int32) → (Nat → Int32) → (Nat → Int32) → (Nat → Int32) → (Nat → Int32) → (Nat → Int32) → Prop} (hb : b < 16) (hc : c < 6)
    (hJ : ∀ m l f1 f2 f3 f4 f5 f6 a1 a2 a3 a4 a5 a6 a7 a8 a9 a10 a11 a12 a13 a14 a15 a16 a17 a18 a19 a20, k m l = true → aq_R u v fc m l (f1, f2, f3, f4, f5, f6, a1, a2, a3, a4, a5, a6, a7, a8, a9, a10, a11, a12, a13, a14, a15, a16, a17, a18, a19, a20) → J (nI (c + 1)) f1 f2 f3 f4 f5 f6 a1 a2 a3 a4 a5 a6 a7 a8 a9 a10 a11 a12 a13 a14 a15 a16 a17 a18 a19 a20) : ∀ w j m l f1 f2 f3 f4 f5 f6 a1 a2 a3 a4 a5 a6 a7 a8 a9 a10 a11 a12 a13 a14 a15 a16 a17 a18 a19 a20, aq_a4 fc b c k w j m l = true → aq_R u v fc m l (f1, f2, f3, f4, f5, f6, a1, a2, a3, a4, a5, a6, a7, a8, a9, a10, a11, a12, a13, a14, a15, a16, a17, a18, a19, a20) → j < 5 → wL_lawOf_69 post mc ms J u v how (nI b) (nI c) kc ks w (nI j) f1 f2 f3 f4 f5 f6 a1 a2 a3 a4 a5 a6 a7 a8 a9 a10 a11 a12 a13 a14 a15 a16 a17 a18 a19 a20 := by
  intro w
  induction w with
  | zero => intros; rename_i h _ _; exact absurd h Bool.false_ne_true
  | succ w ih =>
    intro j m l f1 f2 f3 f4 f5 f6 a1 a2 a3 a4 a5 a6 a7 a8 a9 a10 a11 a12 a13 a14 a15 a16 a17 a18 a19 a20 h hR hj
    rcases aq_ifle h with ⟨z, h⟩ | ⟨z, h⟩
    · exact br_t (nI_le (a := 4) z (by omega)) (nm_r (nI_1 c) (hJ _ _ _ _ _ _ _ _ _ _ _ _ _ _ _ _ _ _ _ _ _ _ _ _ _ _ _ _ h hR))
    · refine br_f (nI_ge (b := 4) z (by omega)) (nm_r (aq_m15 (by omega)) ?_)
      refine aq_W_add (t := 0) h hR (by decide) (Nat.mod_lt _ (by decide)) (aq_vj u v z).symm (fun r m1 l1 U1 h1 hR1 => ?_)
      obtain ⟨f1x, f2x, f3x, f4x, f5x, f6x, a1x, a2x, a3x, a4x, a5x, a6x, a7x, a8x, a9x, a10x, a11x, a12x, a13x, a14x, a15x, a16x, a17x, a18x, a19x, a20x⟩ := U1
      obtain ⟨z1, h1⟩ := aq_andeq h1
      exact br_t (by rw [z1, nI_1]) (nm_r (nI_1 j) (ih _ _ _ _ _ _ _ _ _ _ _ _ _ _ _ _ _ _ _ _ _ _ _ _ _ _ _ _ _ h1 hR1 (by omega)))
theorem aq_L_60 {post : Int32 → St0 → Prop} {mc ms kc ks : Nat} {u v how : Int32} {fc b : Nat} (hp : post 1 ()) (hb : b < 16) : ∀ w c m l f1 f2 f3 f4 f5 f6 a1 a2 a3 a4 a5 a6 a7 a8 a9 a10 a11 a12 a13 a14 a15 a16 a17 a18 a19 a20, aq_a5 fc b (fun m l => aq_main fc b ((9 + b) % 16) ((8 + b) % 16) m l) w c m l = true → aq_R u v fc m l (f1, f2, f3, f4, f5, f6, a1, a2, a3, a4, a5, a6, a7, a8, a9, a10, a11, a12, a13, a14, a15, a16, a17, a18, a19, a20) → c < 6 → wL_lawOf_60 post mc ms u v how (nI b) kc ks w (nI c) f1 f2 f3 f4 f5 f6 a1 a2 a3 a4 a5 a6 a7 a8 a9 a10 a11 a12 a13 a14 a15 a16 a17 a18 a19 a20 := by
  intro w
  induction w with
  | zero => intros; rename_i h _ _; exact absurd h Bool.false_ne_true
  | succ w ih =>
    intro c m l f1 f2 f3 f4 f5 f6 a1 a2 a3 a4 a5 a6 a7 a8 a9 a10 a11 a12 a13 a14 a15 a16 a17 a18 a19 a20 h hR hc
    rcases aq_ifle h with ⟨z, h⟩ | ⟨z, h⟩
    · exact aq_L_main hp hb (nI_le (a := 5) z (by omega)) h hR
    · refine br_f (nI_ge (b := 5) z (by omega)) ⟨5, ?_⟩
      exact aq_L_69 hb hc (fun m l f1 f2 f3 f4 f5 f6 a1 a2 a3 a4 a5 a6 a7 a8 a9 a10 a11 a12 a13 a14 a15 a16 a17 a18 a19 a20 h hR => ih _ _ _ _ _ _ _ _ _ _ _ _ _ _ _ _ _ _ _ _ _ _ _ _ _ _ _ _ _ h hR (by omega)) 5 0 _ _ _ _ _ _ _ _ _ _ _ _ _ _ _ _ _ _ _ _ _ _ _ _ _ _ _ _ h hR (by omega)
theorem aq_L_19 {post : Int32 → St0 → Prop} {mc ms kc ks : Nat} {u v how : Int32} {fc b : Nat} (hp : post 1 ()) (hb : b < 16) : ∀ w t m l f1 f2 f3 f4 f5 f6 a1 a2 a3 a4 a5 a6 a7 a8 a9 a10 a11 a12 a13 a14 a15 a16 a17 a18 a19 a20, aq_b3 (fun m l => aq_a5 fc b (fun m l => aq_main fc b ((9 + b) % 16) ((8 + b) % 16) m l) 6 0 m l) w t m l = true → aq_R u v fc m l (f1, f2, f3, f4, f5, f6, a1, a2, a3, a4, a5, a6, a7, a8, a9, a10, a11, a12, a13, a14, a15, a16, a17, a18, a19, a20) → t < 4 → wL_lawOf_19 post mc ms u v how (nI b) kc ks w (nI t) f1 f2 f3 f4 f5 f6 a1 a2 a3 a4 a5 a6 a7 a8 a9 a10 a11 a12 a13 a14 a15 a16 a17 a18 a19 a20 := by
  intro w
  induction w with
  | zero => intros; rename_i h _ _; exact absurd h Bool.false_ne_true
  | succ w ih =>
    intro t m l f1 f2 f3 f4 f5 f6 a1 a2 a3 a4 a5 a6 a7 a8 a9 a10 a11 a12 a13 a14 a15 a16 a17 a18 a19 a20 h hR ht
    rcases aq_ifle h with ⟨z, h⟩ | ⟨z, h⟩
    · exact br_t (nI_le (a := 3) z (by omega)) ⟨6, aq_L_60 hp hb 6 0 _ _ _ _ _ _ _ _ _ _ _ _ _ _ _ _ _ _ _ _ _ _ _ _ _ _ _ _ h hR (by omega)⟩
    · refine br_f (nI_ge (b := 3) z (by omega)) ?_
      refine aq_W_beg h hR z (fun m1 l1 U1 h1 hR1 => ?_)
      obtain ⟨f1x, f2x, f3x, f4x, f5x, f6x, a1x, a2x, a3x, a4x, a5x, a6x, a7x, a8x, a9x, a10x, a11x, a12x, a13x, a14x, a15x, a16x, a17x, a18x, a19x, a20x⟩ := U1
      obtain ⟨z1, h1⟩ := aq_if0 h1
      refine br_t rfl ?_
      refine aq_W_begh z1 hR1 z ?_
      exact br_t rfl (nm_r (nI_1 t) (ih _ _ _ _ _ _ _ _ _ _ _ _ _ _ _ _ _ _ _ _ _ _ _ _ _ _ _ _ _ h1 hR1 (by omega)))
theorem aq_g0 (a : Nat) : aq_g 0 a = 0 := by
  show (0 >>> (64 + 24 * a)) % 16777216 = 0
  rw [Nat.zero_shiftRight]
theorem aq_F0 {B a : Nat} (hB : 0 < B) : aq_F B 0 a 0 := by
  unfold aq_F
  rw [aq_g0]
  exact ⟨rfl, hB⟩
theorem aq_A0 {d : Nat → Int32} {B b n : Nat} {s : Nat → Int32} (hB : 0 < B) (hs : ∀ i, i < n → s i = d 0) : aq_A d B 0 b n s := by
  intro i hi
  rw [aq_g0]
  exact ⟨hs i hi, hB⟩
theorem aq_L0 {d : Nat → Int32} {B k : Nat} (hB : 0 < B) (hd : 0 = d 0) : aq_L d B 0 k (fun _ => 0) := by
  intro i _
  rw [aq_g0]
  exact ⟨hd, hB⟩
theorem aq_R0 {u v : Int32} {fc : Nat} {s : Nat → Int32} (hf : fc ≤ 3) (hs : ∀ i, i < 3 → s i = -1) : aq_R u v fc 0 0 (0, 0, 0, nI fc, 0, 0, fun _ => 0, fun _ => 0, fun _ => 0, fun _ => 0, fun _ => 0, fun _ => 0, fun _ => 0, fun _ => 0, fun _ => 0, fun _ => 0, fun _ => 0, s, fun _ => 0, fun _ => 0, fun _ => 0, fun _ => 0, fun _ => 0, fun _ => 0, fun _ => 0, fun _ => 0) := by
  have hv : 0 = aq_v u v 0 := (aq_v0 u v).symm
  have h0 : (0 : Int32) = nI 0 := rfl
  exact ⟨aq_F0 (by decide), aq_F0 (by decide), aq_F0 (by decide), ⟨rfl, hf⟩, aq_F0 (by decide), aq_F0 (by decide),
    aq_A0 (by decide) (fun _ _ => hv), aq_A0 (by decide) (fun _ _ => h0), aq_A0 (by decide) (fun _ _ => h0), aq_A0 (by decide) (fun _ _ => h0),
    aq_L0 (by decide) h0, aq_L0 (by decide) h0, aq_L0 (by decide) h0, aq_L0 (by decide) hv, aq_L0 (by decide) hv, aq_L0 (by decide) h0,
    aq_A0 (by decide) hs, aq_A0 (by decide) (fun _ _ => hv), aq_A0 (by decide) (fun _ _ => h0), aq_A0 (by decide) (fun _ _ => h0), aq_A0 (by decide) (fun _ _ => h0), aq_A0 (by decide) (fun _ _ => h0), aq_A0 (by decide) (fun _ _ => h0), aq_A0 (by decide) (fun _ _ => h0), aq_A0 (by decide) (fun _ _ => h0)⟩
theorem aq_i185 {post : St2 → Prop} {mc ms kc ks : Nat} {u v f4 : Int32} {fc : Nat} (hf : fc ≤ 3) (e4 : f4 = nI fc) (hk : ∀ U, aq_R u v fc 0 0 U → post U) : ∃ n, wX_init_185 post mc ms kc ks 0 0 0 f4 0 0 n 0 (fun _ => 0) (fun _ => 0) (fun _ => 0) (fun _ => 0) (fun _ => 0) (fun _ => 0) (fun _ => 0) (fun _ => 0) (fun _ => 0) (fun _ => 0) (fun _ => 0) (fun _ => 0) (fun _ => 0) (fun _ => 0) (fun _ => 0) (fun _ => 0) (fun _ => 0) (fun _ => 0) (fun _ => 0) (fun _ => 0) := by
  subst e4
  refine pk_loop (fun n i s => wX_init_185 post mc ms kc ks 0 0 0 (nI fc) 0 0 n (nI i) (fun _ => 0) (fun _ => 0) (fun _ => 0) (fun _ => 0) (fun _ => 0) (fun _ => 0) (fun _ => 0) (fun _ => 0) (fun _ => 0) (fun _ => 0) (fun _ => 0) s (fun _ => 0) (fun _ => 0) (fun _ => 0) (fun _ => 0) (fun _ => 0) (fun _ => 0) (fun _ => 0) (fun _ => 0)) (fun i s => ∀ j, j < i → s j = -1) 3 0 (fun _ => 0) (by omega) (fun j hj => absurd hj (by omega)) ?_ ?_
  · exact fun n s hs => pk_le 3 3 (fun _ => hk _ (aq_R0 hf hs)) (fun z => absurd z (by omega))
  · intro n i s hi hs hw
    refine pk_le 3 i (fun z => absurd z (by omega)) (fun _ => ⟨pk_in i 3 hi, nm_e (nm_r (nI_1 i) (hw _ ?_))⟩)
    intro j hj
    rw [aq_c (by omega)]
    by_cases e : j = i
    · rw [e, pk_us]
    · rw [pk_un e]; exact hs j (by omega)
theorem aq_init {post : St2 → Prop} {u v p0 : Int32} (hk : ∀ fc U, 1 ≤ fc → fc ≤ 3 → aq_R u v fc 0 0 U → post U) : wpX_init post 20 2170 (0, 0, 0, 0, 0, 0) p0 := by
  unfold wpX_init
  refine ⟨by decide, by decide, by decide, by decide, by decide, by decide, by decide, by decide, by decide, by decide, by decide, by decide, by decide, by decide, by decide, by decide, by decide, by decide, by decide, by decide, by decide, by decide, by decide, by decide, by decide, by decide, by decide, by decide, by decide, by decide, by decide, by decide, by decide, by decide, by decide, by decide, by decide, by decide, by decide, by decide, ?_⟩
  refine br_c (fun h1 => br_c (fun h3 => ?_) (fun _ => ?_)) (fun _ => ?_)
  · have h0 : ¬ p0 < 0 := fun z => absurd (Int32.lt_of_le_of_lt h1 z) (by decide)
    obtain ⟨j, hj, e⟩ := nI_of2 (M := 3) (n := 3) (by decide) h0 h3
    have hj1 : 1 ≤ j := by
      rcases Nat.eq_zero_or_pos j with z | z
      · rw [e, z] at h1; exact absurd h1 (by decide)
      · exact z
    exact aq_i185 hj e (fun U hR => hk j U hj1 hj hR)
  · exact aq_i185 (fc := 3) (by decide) rfl (fun U hR => hk 3 U (by decide) (by decide) hR)
  · exact aq_i185 (fc := 1) (by decide) rfl (fun U hR => hk 1 U (by decide) (by decide) hR)
theorem aq_lawOf {post : Int32 → St0 → Prop} {p0 p1 p2 p3 p4 : Int32} (hp : post 1 ()) : wpL_lawOf post 650 10384 () p0 p1 p2 p3 p4 := by
  unfold wpL_lawOf
  refine ⟨by decide, by decide, 20, 2170, by decide, by decide, ?_⟩
  refine aq_init (u := p2) (v := p3) (fun fc U h1 h3 hR => ?_)
  obtain ⟨f1, f2, f3, f4, f5, f6, a1, a2, a3, a4, a5, a6, a7, a8, a9, a10, a11, a12, a13, a14, a15, a16, a17, a18, a19, a20⟩ := U
  obtain ⟨b, hb, e⟩ := pk_andE p1 4 (m := 15) (by decide)
  refine nm_r e ⟨4, ?_⟩
  exact aq_L_19 hp hb 4 0 _ _ _ _ _ _ _ _ _ _ _ _ _ _ _ _ _ _ _ _ _ _ _ _ _ _ _ _ (aq_K h1 h3 hb) hR (by omega)
end
section
theorem aq_cell {post : Int32 → Prop} {L : Nat} {xs : Nat → Int32} {k : Nat} (hk : k < 5) (hL : L ≤ 5) (hp : ∀ r, post r) : wpL_cellAt post L xs () (nI k) := by
  unfold wpL_cellAt
  exact pk_le L k (fun _ => hp _) (fun z => ⟨pk_in k L z, hp _⟩)
theorem i_vc (xs : Nat → Int32) (L : Nat) (hL : L ≤ 5) : wpL_law (fun r => r = 1) L xs := by
  unfold wpL_law
  refine aq_cell (k := 0) (by decide) hL (fun r1 => ?_)
  refine aq_cell (k := 1) (by decide) hL (fun r2 => ?_)
  refine aq_cell (k := 2) (by decide) hL (fun r3 => ?_)
  refine aq_cell (k := 3) (by decide) hL (fun r4 => ?_)
  refine aq_cell (k := 4) (by decide) hL (fun r5 => ?_)
  exact ⟨650, 10384, by decide, by decide, aq_lawOf rfl⟩
end
