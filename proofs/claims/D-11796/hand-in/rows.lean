section
/-! ints by whole numbers -/
def jp_z (z : Int) : Int32 := Int32.ofInt z
theorem jp_zn (n : Nat) : jp_z (n : Int) = nI n := Int32.ofInt_eq_ofNat
theorem jp_zt {z : Int} (h1 : -2147483648 ≤ z) (h2 : z < 2147483648) : (jp_z z).toInt = z := Int32.toInt_ofInt_of_le (by omega) (by omega)
theorem jp_zadd (a b : Int) : jp_z a + jp_z b = jp_z (a + b) := (Int32.ofInt_add a b).symm
theorem jp_zsub (a b : Int) : jp_z a - jp_z b = jp_z (a - b) := (Int32.ofInt_sub a b).symm
theorem jp_zmul (a b : Int) : jp_z a * jp_z b = jp_z (a * b) := (Int32.ofInt_mul a b).symm
theorem jp_zneg (a : Int) : -jp_z a = jp_z (-a) := (Int32.ofInt_neg a).symm
theorem jp_zle {a b : Int} (ha : -2147483648 ≤ a ∧ a < 2147483648) (hb : -2147483648 ≤ b ∧ b < 2147483648) : jp_z a ≤ jp_z b ↔ a ≤ b := by
  rw [Int32.le_iff_toInt_le, jp_zt ha.1 ha.2, jp_zt hb.1 hb.2]
theorem jp_zlt {a b : Int} (ha : -2147483648 ≤ a ∧ a < 2147483648) (hb : -2147483648 ≤ b ∧ b < 2147483648) : jp_z a < jp_z b ↔ a < b := by
  rw [Int32.lt_iff_toInt_lt, jp_zt ha.1 ha.2, jp_zt hb.1 hb.2]
theorem jp_zeq {a b : Int} (ha : -2147483648 ≤ a ∧ a < 2147483648) (hb : -2147483648 ≤ b ∧ b < 2147483648) : jp_z a = jp_z b ↔ a = b := by
  rw [← Int32.toInt_inj, jp_zt ha.1 ha.2, jp_zt hb.1 hb.2]
theorem jp_ble {x y : Int32} {A B : Prop} (a b : Int) (f : a ≤ b → A) (g : b < a → B) (hx : x = jp_z a := by rfl) (hy : y = jp_z b := by rfl) (ha : -2147483648 ≤ a ∧ a < 2147483648 := by omega) (hb : -2147483648 ≤ b ∧ b < 2147483648 := by omega) : (x ≤ y → A) ∧ (¬ x ≤ y → B) := by
  subst hx hy
  rw [jp_zle ha hb]
  exact ⟨f, fun z => g (by omega)⟩
theorem jp_blt {x y : Int32} {A B : Prop} (a b : Int) (f : a < b → A) (g : b ≤ a → B) (hx : x = jp_z a := by rfl) (hy : y = jp_z b := by rfl) (ha : -2147483648 ≤ a ∧ a < 2147483648 := by omega) (hb : -2147483648 ≤ b ∧ b < 2147483648 := by omega) : (x < y → A) ∧ (¬ x < y → B) := by
  subst hx hy
  rw [jp_zlt ha hb]
  exact ⟨f, fun z => g (by omega)⟩
theorem jp_beq {x y : Int32} {A B : Prop} (a b : Int) (f : a = b → A) (g : a ≠ b → B) (hx : x = jp_z a := by rfl) (hy : y = jp_z b := by rfl) (ha : -2147483648 ≤ a ∧ a < 2147483648 := by omega) (hb : -2147483648 ≤ b ∧ b < 2147483648 := by omega) : (x = y → A) ∧ (¬ x = y → B) := by
  subst hx hy
  rw [jp_zeq ha hb]
  exact ⟨f, g⟩
theorem jp_z0 : (0 : Int32) = jp_z 0 := by decide
theorem jp_zm1 : (-1 : Int32) = jp_z (-1) := by decide
theorem jp_ifs {c : Prop} [Decidable c] {A B : Prop} (f : c → A) (g : ¬ c → B) : (c → A) ∧ (¬ c → B) := ⟨f, g⟩
theorem jp_p2 {a b : Nat} (h : a ≤ b) : 2 ^ a ≤ 2 ^ b := Nat.pow_le_pow_right (by omega) h
/-! shifts by a count that is a small natural -/
theorem jp_cnt : ∀ n, n < 32 → ((nI n &&& 31).toBitVec.smod 32).toNat = n := by decide +kernel
theorem jp_shr {a n : Nat} (ha : a < 2 ^ 31) (hn : n < 32) : nI a >>> (nI n &&& 31) = nI (a / 2 ^ n) := pk_shrN ha _ n (jp_cnt n hn)
theorem jp_shl {a n : Nat} (hn : n < 32) (h : a * 2 ^ n < 2 ^ 32) : nI a <<< (nI n &&& 31) = nI (a * 2 ^ n) := pk_shlN _ n (jp_cnt n hn) h
theorem jp_and1 {a : Nat} (ha : a < 2 ^ 32) : nI a &&& 1 = nI (a % 2) := pk_andN ha 1 (by decide)
theorem jp_bitof {a n : Nat} (ha : a < 2 ^ 31) (hn : n < 32) : (nI a >>> (nI n &&& 31)) &&& 1 = nI (a / 2 ^ n % 2) := by
  rw [jp_shr ha hn, jp_and1 (by have := Nat.div_le_self a (2 ^ n); omega)]
theorem jp_push : ∀ a, a < 128 → ∀ b, b < 2 → (nI a <<< ((1 : Int32) &&& 31)) ||| nI b = nI (2 * a + b) := by decide +kernel
/-! rows of bits (0 or 1), cut into bytes, with a 0 behind each 255 -/
def jp_pv (B : Nat → Nat) (j : Nat) : Nat → Nat
  | 0 => 0
  | i + 1 => 2 * jp_pv B j i + B (8 * j + i)
def jp_bv (B : Nat → Nat) (j : Nat) : Nat := jp_pv B j 8
def jp_ps (B : Nat → Nat) (p : Nat) : Nat → Nat
  | 0 => p
  | j + 1 => jp_ps B p j + (if jp_bv B j = 255 then 2 else 1)
theorem jp_pv_lt {B : Nat → Nat} (hB : ∀ t, B t < 2) (j i : Nat) : jp_pv B j i < 2 ^ i := by
  induction i with
  | zero => exact Nat.one_pos
  | succ i ih =>
    have h := hB (8 * j + i)
    show 2 * jp_pv B j i + B (8 * j + i) < 2 ^ (i + 1)
    rw [Nat.pow_succ]
    omega
theorem jp_bv_lt {B : Nat → Nat} (hB : ∀ t, B t < 2) (j : Nat) : jp_bv B j < 256 := jp_pv_lt hB j 8
theorem jp_bv_eq (B : Nat → Nat) (j : Nat) : jp_bv B j = 2 * (2 * (2 * (2 * (2 * (2 * (2 * (2 * 0 + B (8 * j + 0)) + B (8 * j + 1)) + B (8 * j + 2)) + B (8 * j + 3)) + B (8 * j + 4)) + B (8 * j + 5)) + B (8 * j + 6)) + B (8 * j + 7) := rfl
theorem jp_bit {B : Nat → Nat} (hB : ∀ t, B t < 2) (j : Nat) {i : Nat} (hi : i < 8) : jp_bv B j / 2 ^ (7 - i) % 2 = B (8 * j + i) := by
  have e := jp_bv_eq B j
  have h0 := hB (8 * j + 0)
  have h1 := hB (8 * j + 1)
  have h2 := hB (8 * j + 2)
  have h3 := hB (8 * j + 3)
  have h4 := hB (8 * j + 4)
  have h5 := hB (8 * j + 5)
  have h6 := hB (8 * j + 6)
  have h7 := hB (8 * j + 7)
  generalize jp_bv B j = v at *
  rcases (by omega : i = 0 ∨ i = 1 ∨ i = 2 ∨ i = 3 ∨ i = 4 ∨ i = 5 ∨ i = 6 ∨ i = 7) with rfl | rfl | rfl | rfl | rfl | rfl | rfl | rfl
  · show v / 128 % 2 = B (8 * j + 0); omega
  · show v / 64 % 2 = B (8 * j + 1); omega
  · show v / 32 % 2 = B (8 * j + 2); omega
  · show v / 16 % 2 = B (8 * j + 3); omega
  · show v / 8 % 2 = B (8 * j + 4); omega
  · show v / 4 % 2 = B (8 * j + 5); omega
  · show v / 2 % 2 = B (8 * j + 6); omega
  · show v / 1 % 2 = B (8 * j + 7); omega
theorem jp_ps_s (B : Nat → Nat) (p j : Nat) : jp_ps B p (j + 1) = jp_ps B p j + (if jp_bv B j = 255 then 2 else 1) := rfl
theorem jp_ps_le (B : Nat → Nat) (p j : Nat) : p + j ≤ jp_ps B p j ∧ jp_ps B p j ≤ p + 2 * j := by
  induction j with
  | zero => exact ⟨Nat.le_refl _, Nat.le_refl _⟩
  | succ j ih => rw [jp_ps_s]; split <;> omega
theorem jp_ps_mono (B : Nat → Nat) (p : Nat) {j k : Nat} (h : j < k) : jp_ps B p j + (if jp_bv B j = 255 then 2 else 1) ≤ jp_ps B p k := by
  induction k with
  | zero => omega
  | succ k ih =>
    by_cases e : j = k
    · subst e; exact Nat.le_refl _
    · have := ih (by omega)
      rw [jp_ps_s B p k]
      exact Nat.le_trans this (Nat.le_add_right _ _)
theorem jp_ps_lt (B : Nat → Nat) (p : Nat) {j k : Nat} (h : j < k) : jp_ps B p j < jp_ps B p k := by
  have := jp_ps_mono B p h
  split at this <;> omega
theorem jp_ps_add (B : Nat → Nat) (p d j : Nat) : jp_ps B (p + d) j = jp_ps B p j + d := by
  induction j with
  | zero => rfl
  | succ j ih => rw [jp_ps_s, jp_ps_s, ih]; omega
/-- m bytes of the row B lie from place p on -/
def jp_laid (B : Nat → Nat) (p m : Nat) (by_ : Nat → Int32) : Prop := ∀ j, j < m → by_ (jp_ps B p j) = nI (jp_bv B j) ∧ (jp_bv B j = 255 → by_ (jp_ps B p j + 1) = nI 0)
theorem jp_laid_keep {B : Nat → Nat} {p m : Nat} {b b' : Nat → Int32} (h : jp_laid B p m b) (hk : ∀ j, p ≤ j → j < jp_ps B p m → b' j = b j) : jp_laid B p m b' := by
  intro j hj
  have h1 := (jp_ps_le B p j).1
  have h2 := jp_ps_mono B p hj
  refine ⟨?_, fun e => ?_⟩
  · rw [hk _ (by omega) (by split at h2 <;> omega)]
    exact (h j hj).1
  · rw [hk _ (by omega) (by rw [if_pos e] at h2; omega)]
    exact (h j hj).2 e
theorem jp_laid_move {B : Nat → Nat} {p d m : Nat} {b b' : Nat → Int32} (h : jp_laid B (p + d) m b) (hk : ∀ j, p ≤ j → j < jp_ps B p m → b' j = b (j + d)) : jp_laid B p m b' := by
  intro j hj
  have h1 := (jp_ps_le B p j).1
  have h2 := jp_ps_mono B p hj
  have h3 := h j hj
  rw [jp_ps_add] at h3
  refine ⟨?_, fun e => ?_⟩
  · rw [hk _ (by omega) (by split at h2 <;> omega)]
    exact h3.1
  · rw [hk _ (by omega) (by rw [if_pos e] at h2; omega), show jp_ps B p j + 1 + d = jp_ps B p j + d + 1 by omega]
    exact h3.2 e
theorem jp_laid_add {B : Nat → Nat} {p m : Nat} {b b' : Nat → Int32} (h : jp_laid B p m b) (hk : ∀ j, j < jp_ps B p m → b' j = b j) (h1 : b' (jp_ps B p m) = nI (jp_bv B m)) (h2 : jp_bv B m = 255 → b' (jp_ps B p m + 1) = nI 0) : jp_laid B p (m + 1) b' := by
  intro j hj
  by_cases e : j = m
  · subst e; exact ⟨h1, h2⟩
  · exact jp_laid_keep h (fun j _ hj => hk j hj) j (by omega)
/-- the writer, t bits of the segment at p written -/
def jp_w (B : Nat → Nat) (p t : Nat) (len bb bc : Int32) (by_ : Nat → Int32) : Prop :=
  len = nI (jp_ps B p (t / 8)) ∧ bb = nI (jp_pv B (t / 8) (t % 8)) ∧ bc = nI (t % 8) ∧ jp_laid B p (t / 8) by_
/-- the reader, t bits of the segment at p read -/
def jp_r (B : Nat → Nat) (p t : Nat) (ra bb bc : Int32) : Prop :=
  ra = nI (jp_ps B p ((t + 7) / 8)) ∧ bc = nI (8 * ((t + 7) / 8) - t) ∧ (¬ t % 8 = 0 → bb = nI (jp_bv B (t / 8)))
theorem jp_w0 (B : Nat → Nat) (p : Nat) {b : Nat → Int32} : jp_w B p 0 (nI p) 0 0 b := ⟨rfl, rfl, rfl, fun j hj => absurd hj (by omega)⟩
theorem jp_r0 (B : Nat → Nat) (p : Nat) {bb : Int32} : jp_r B p 0 (nI p) bb 0 := ⟨rfl, rfl, fun h => absurd rfl h⟩
/-! numbers out of bits -/
def jp_vb (B : Nat → Nat) (t : Nat) : Nat → Nat
  | 0 => 0
  | n + 1 => jp_vb B t n * 2 + B (t + n)
theorem jp_vb_eq {B : Nat → Nat} {t n v : Nat} (h : ∀ i, i < n → B (t + i) = v / 2 ^ (n - 1 - i) % 2) (hv : v < 2 ^ n) : ∀ i, i ≤ n → jp_vb B t i = v / 2 ^ (n - i) := by
  intro i
  induction i with
  | zero =>
    intro _
    show 0 = v / 2 ^ (n - 0)
    rw [Nat.sub_zero, Nat.div_eq_of_lt hv]
  | succ i ih =>
    intro hi
    show jp_vb B t i * 2 + B (t + i) = v / 2 ^ (n - (i + 1))
    rw [ih (by omega), h i (by omega), show n - 1 - i = n - (i + 1) by omega, show n - i = n - (i + 1) + 1 by omega, Nat.pow_succ, ← Nat.div_div_eq_div_mul]
    omega
theorem jp_vb_all {B : Nat → Nat} {t n v : Nat} (h : ∀ i, i < n → B (t + i) = v / 2 ^ (n - 1 - i) % 2) (hv : v < 2 ^ n) : jp_vb B t n = v := by
  rw [jp_vb_eq h hv n (Nat.le_refl n), Nat.sub_self, Nat.pow_zero, Nat.div_one]
/-! sizes of whole numbers, and their digits -/
def jp_sz (c : Int) : Nat := if c.natAbs = 0 then 0 else Nat.log2 c.natAbs + 1
def jp_mg (c : Int) : Nat := if 0 < c then c.natAbs else 2 ^ jp_sz c - 1 - c.natAbs
theorem jp_sz_lt (c : Int) : c.natAbs < 2 ^ jp_sz c := by
  unfold jp_sz
  split
  · omega
  · exact Nat.lt_log2_self
theorem jp_sz_ge {c : Int} (h : c.natAbs ≠ 0) : 0 < jp_sz c ∧ 2 ^ (jp_sz c - 1) ≤ c.natAbs := by
  unfold jp_sz
  rw [if_neg h]
  exact ⟨by omega, Nat.log2_self_le h⟩
theorem jp_sz_le {c : Int} {k : Nat} (h : c.natAbs < 2 ^ k) : jp_sz c ≤ k := by
  unfold jp_sz
  split
  · omega
  · rename_i e
    have := (Nat.log2_lt e).mpr h
    omega
theorem jp_mg_lt (c : Int) : jp_mg c < 2 ^ jp_sz c := by
  have h := jp_sz_lt c
  unfold jp_mg
  split <;> omega
/-- what the reader makes of a number of n digits -/
def jp_dv (n m : Nat) : Int := if n = 0 then 0 else if m / 2 ^ (n - 1) = 1 then (m : Int) else (m : Int) - 2 ^ n + 1
theorem jp_dv_mg (c : Int) : jp_dv (jp_sz c) (jp_mg c) = c := by
  by_cases h0 : c.natAbs = 0
  · have e : jp_sz c = 0 := by unfold jp_sz; rw [if_pos h0]
    unfold jp_dv
    rw [e, if_pos rfl]
    omega
  · obtain ⟨h1, h2⟩ := jp_sz_ge h0
    have h3 := jp_sz_lt c
    have e : 2 ^ jp_sz c = 2 * 2 ^ (jp_sz c - 1) := by
      rw [show jp_sz c = jp_sz c - 1 + 1 by omega, Nat.pow_succ, Nat.add_sub_cancel]; omega
    have e' : (2 : Int) ^ jp_sz c = ((2 ^ jp_sz c : Nat) : Int) := by simp
    unfold jp_dv
    rw [if_neg (by omega), e']
    have hp : 0 < 2 ^ (jp_sz c - 1) := Nat.two_pow_pos _
    by_cases hc : 0 < c
    · have em : jp_mg c = c.natAbs := if_pos hc
      rw [em]
      have : c.natAbs / 2 ^ (jp_sz c - 1) = 1 := by
        rw [Nat.div_eq_iff hp]
        generalize 2 ^ (jp_sz c - 1) = P at *
        omega
      rw [if_pos this]
      omega
    · have em : jp_mg c = 2 ^ jp_sz c - 1 - c.natAbs := if_neg hc
      rw [em]
      have : (2 ^ jp_sz c - 1 - c.natAbs) / 2 ^ (jp_sz c - 1) = 0 := by
        rw [Nat.div_eq_of_lt]
        generalize 2 ^ (jp_sz c - 1) = P at *
        omega
      rw [this, if_neg (by omega)]
      generalize 2 ^ jp_sz c = P at *
      omega
end
section
/-! walks: writing and reading bits -/
theorem jp_ix (a b c : Nat) : nI a * nI b + nI c = nI (a * b + c) := by rw [pk_mul, nI_add]
theorem jp_dec (i : Nat) : nI i + (-1) = nI i - 1 := by rw [Int32.sub_eq_add_neg]
theorem jq_putByte {post : St2 → Prop} {f1 f2 f3 f4 f6 f7 f8 f9 f10 f11 : Int32} {a1 a2 a3 a4 a5 a6 a7 a8 a9 a10 a11 a12 a13 a14 a15 a16 : Nat → Int32} {a17 : Nat → Int64} {L : Nat} {b : Int32} (hL : L < 1900) (H : post (f1, f2, f3, f4, (nI (L + 1)), f6, f7, f8, f9, f10, f11, a1, a2, a3, a4, (upd a5 L b), a6, a7, a8, a9, a10, a11, a12, a13, a14, a15, a16, a17)) : wpX_putByte post (f1, f2, f3, f4, (nI L), f6, f7, f8, f9, f10, f11, a1, a2, a3, a4, a5, a6, a7, a8, a9, a10, a11, a12, a13, a14, a15, a16, a17) b := by
  refine ⟨pk_in L 1900 hL, ?_⟩
  rw [nI_clamp (by omega)]
  exact nm_e (nm_r (nI_1 L) H)
theorem jq_pb4 {post : St2 → Prop} {B : Nat → Nat} {p v : Nat} (hB : ∀ t, B t < 2) (hv : v < 2 ^ 31) : ∀ (i t : Nat) {f1 f2 f3 f4 f5 f6 f7 f8 f9 f10 f11 : Int32} {a1 a2 a3 a4 a5 a6 a7 a8 a9 a10 a11 a12 a13 a14 a15 a16 : Nat → Int32} {a17 : Nat → Int64}, i ≤ 31 →
    (∀ k, k < i → B (t + k) = v / 2 ^ (i - 1 - k) % 2) → p + 2 * ((t + i) / 8) + 2 ≤ 1900 → jp_w B p t f5 f8 f9 a5 →
    (∀ len bb bc by_, jp_w B p (t + i) len bb bc by_ → (∀ j, j < p → by_ j = a5 j) → post (f1, f2, f3, f4, len, f6, f7, bb, bc, f10, f11, a1, a2, a3, a4, by_, a6, a7, a8, a9, a10, a11, a12, a13, a14, a15, a16, a17)) →
    wX_putBits_4 post (nI v) (i + 1) (nI i - 1) f1 f2 f3 f4 f5 f6 f7 f8 f9 f10 f11 a1 a2 a3 a4 a5 a6 a7 a8 a9 a10 a11 a12 a13 a14 a15 a16 a17 := by
  intro i
  induction i with
  | zero =>
    intro t f1 f2 f3 f4 f5 f6 f7 f8 f9 f10 f11 a1 a2 a3 a4 a5 a6 a7 a8 a9 a10 a11 a12 a13 a14 a15 a16 a17 hi hb hp hw H
    exact br_t (by decide) (H f5 f8 f9 a5 hw (fun _ _ => rfl))
  | succ i ih =>
    intro t f1 f2 f3 f4 f5 f6 f7 f8 f9 f10 f11 a1 a2 a3 a4 a5 a6 a7 a8 a9 a10 a11 a12 a13 a14 a15 a16 a17 hi hb hp hw H
    obtain ⟨rfl, rfl, rfl, hl⟩ := hw
    have hps := jp_ps_le B p (t / 8)
    have hbt : (nI v >>> (nI i &&& 31)) &&& 1 = nI (B t) := by
      rw [jp_bitof hv (by omega)]
      have h := hb 0 (by omega)
      rw [show i + 1 - 1 - 0 = i by omega] at h
      rw [← h]
      rfl
    have hpv : jp_pv B (t / 8) (t % 8) < 128 := by
      have h := jp_pv_lt hB (t / 8) (t % 8)
      have h2 : 2 ^ (t % 8) ≤ 2 ^ 7 := Nat.pow_le_pow_right (by omega) (by omega)
      omega
    have eP : 2 * jp_pv B (t / 8) (t % 8) + B t = jp_pv B (t / 8) (t % 8 + 1) := by
      show _ = 2 * jp_pv B (t / 8) (t % 8) + B (8 * (t / 8) + t % 8)
      rw [show 8 * (t / 8) + t % 8 = t by omega]
    have hb' : ∀ k, k < i → B (t + 1 + k) = v / 2 ^ (i - 1 - k) % 2 := by
      intro k hk
      have h := hb (k + 1) (by omega)
      rw [show i + 1 - 1 - (k + 1) = i - 1 - k by omega] at h
      rw [show t + 1 + k = t + (k + 1) by omega, h]
    have H' : ∀ a5' : Nat → Int32, (∀ j, j < p → a5' j = a5 j) → ∀ len bb bc by_, jp_w B p (t + 1 + i) len bb bc by_ → (∀ j, j < p → by_ j = a5' j) → post (f1, f2, f3, f4, len, f6, f7, bb, bc, f10, f11, a1, a2, a3, a4, by_, a6, a7, a8, a9, a10, a11, a12, a13, a14, a15, a16, a17) := by
      intro a5' h5 len bb bc by_ hw hk
      refine H len bb bc by_ ?_ (fun j hj => by rw [hk j hj, h5 j hj])
      rw [show t + (i + 1) = t + 1 + i by omega]
      exact hw
    rw [nI_pred]
    refine br_f (nI_pos (by omega)) (nm_r (e' := nI (jp_pv B (t / 8) (t % 8 + 1))) ?_ (nm_r (nI_1 (t % 8)) (pk_eq (t % 8 + 1) 8 (fun h => ?_) (fun h => nm_r (jp_dec i) ?_))))
    · rw [hbt, jp_push _ hpv _ (hB t), eP]
    · have e1 : (t + 1) / 8 = t / 8 + 1 := by omega
      have e2 : (t + 1) % 8 = 0 := by omega
      have e3 : jp_pv B (t / 8) (t % 8 + 1) = jp_bv B (t / 8) := by rw [h]; rfl
      rw [e3]
      refine jq_putByte (by omega) ?_
      refine pk_eq (jp_bv B (t / 8)) 255 (fun z => ?_) (fun z => ?_) rfl rfl (by have := jp_bv_lt hB (t / 8); omega)
      · refine jq_putByte (by omega) ?_
        refine nm_r (jp_dec i) (ih (t + 1) (by omega) hb' (by omega) ⟨?_, ?_, ?_, ?_⟩ (H' _ ?_))
        · rw [e1, jp_ps_s, if_pos z]
        · rw [e2]; rfl
        · rw [e2]; rfl
        · rw [e1]
          refine jp_laid_add hl (fun j hj => ?_) ?_ (fun _ => ?_)
          · rw [pk_un (by omega), pk_un (by omega)]
          · rw [pk_un (by omega), pk_us]
          · rw [pk_us]; rfl
        · intro j hj
          rw [pk_un (by omega), pk_un (by omega)]
      · refine nm_r (jp_dec i) (ih (t + 1) (by omega) hb' (by omega) ⟨?_, ?_, ?_, ?_⟩ (H' _ ?_))
        · rw [e1, jp_ps_s, if_neg z]
        · rw [e2]; rfl
        · rw [e2]; rfl
        · rw [e1]
          refine jp_laid_add hl (fun j hj => ?_) ?_ (fun y => absurd y z)
          · rw [pk_un (by omega)]
          · rw [pk_us]
        · intro j hj
          rw [pk_un (by omega)]
    · have e1 : (t + 1) / 8 = t / 8 := by omega
      have e2 : (t + 1) % 8 = t % 8 + 1 := by omega
      refine ih (t + 1) (by omega) hb' (by omega) ⟨?_, ?_, ?_, ?_⟩ (H' _ (fun _ _ => rfl))
      · rw [e1]
      · rw [e1, e2]
      · rw [e2]
      · rw [e1]; exact hl
theorem jq_putBits {post : St2 → Prop} {B : Nat → Nat} {p v n t : Nat} {f1 f2 f3 f4 f5 f6 f7 f8 f9 f10 f11 : Int32} {a1 a2 a3 a4 a5 a6 a7 a8 a9 a10 a11 a12 a13 a14 a15 a16 : Nat → Int32} {a17 : Nat → Int64} (hB : ∀ t, B t < 2) (hv : v < 2 ^ 31) (hn : n ≤ 31)
    (hb : ∀ k, k < n → B (t + k) = v / 2 ^ (n - 1 - k) % 2) (hp : p + 2 * ((t + n) / 8) + 2 ≤ 1900) (hw : jp_w B p t f5 f8 f9 a5)
    (H : ∀ len bb bc by_, jp_w B p (t + n) len bb bc by_ → (∀ j, j < p → by_ j = a5 j) → post (f1, f2, f3, f4, len, f6, f7, bb, bc, f10, f11, a1, a2, a3, a4, by_, a6, a7, a8, a9, a10, a11, a12, a13, a14, a15, a16, a17)) :
    wpX_putBits post (f1, f2, f3, f4, f5, f6, f7, f8, f9, f10, f11, a1, a2, a3, a4, a5, a6, a7, a8, a9, a10, a11, a12, a13, a14, a15, a16, a17) (nI v) (nI n) :=
  nm_e ⟨n + 1, jq_pb4 hB hv n t hn hb hp hw H⟩
theorem jq_getBit {post : Int32 → St2 → Prop} {B : Nat → Nat} {p m t L : Nat} {f1 f2 f3 f4 f6 f7 f8 f9 f10 f11 : Int32} {a1 a2 a3 a4 a5 a6 a7 a8 a9 a10 a11 a12 a13 a14 a15 a16 : Nat → Int32} {a17 : Nat → Int64} (hB : ∀ t, B t < 2) (hl : jp_laid B p m a5) (ht : t < 8 * m) (hL : jp_ps B p m ≤ L) (hL2 : L ≤ 1900) (hr : jp_r B p t f10 f8 f9)
    (H : ∀ ra bb bc, jp_r B p (t + 1) ra bb bc → post (nI (B t)) (f1, f2, f3, f4, (nI L), f6, f7, bb, bc, ra, f11, a1, a2, a3, a4, a5, a6, a7, a8, a9, a10, a11, a12, a13, a14, a15, a16, a17)) : wpX_getBit post (f1, f2, f3, f4, (nI L), f6, f7, f8, f9, f10, f11, a1, a2, a3, a4, a5, a6, a7, a8, a9, a10, a11, a12, a13, a14, a15, a16, a17) := by
  obtain ⟨rfl, rfl, h8⟩ := hr
  have hbv := jp_bv_lt hB (t / 8)
  by_cases h : t % 8 = 0
  · have hj : t / 8 < m := by omega
    have e1 : (t + 7) / 8 = t / 8 := by omega
    have hps := jp_ps_lt B p hj
    have hlj := (hl (t / 8) hj).1
    have e2 : 8 * (t / 8) - t = 0 := by omega
    have er : (t + 1 + 7) / 8 = t / 8 + 1 := by omega
    rw [e1, e2]
    have ebit : (nI (jp_bv B (t / 8)) >>> (nI 7 &&& 31)) &&& 1 = nI (B t) := by
      rw [jp_bitof (by omega) (by omega)]
      have h := jp_bit hB (t / 8) (i := 0) (by omega)
      rw [show 8 * (t / 8) + 0 = t by omega] at h
      rw [← h]
    refine br_t rfl (pk_le L (jp_ps B p (t / 8)) (fun z => absurd z (by omega)) (fun _ => ⟨pk_in (jp_ps B p (t / 8)) 1900 (by omega), ?_⟩))
    rw [nI_clamp (by omega), hlj]
    refine nm_r (nI_1 _) (pk_eq (jp_bv B (t / 8)) 255 (fun z => nm_r (nI_1 _) (nm_r (e' := nI 7) rfl ?_)) (fun z => nm_r (e' := nI 7) rfl ?_))
    · rw [ebit]
      exact H _ _ _ ⟨by rw [er, jp_ps_s, if_pos z], by rw [er]; exact congrArg nI (by omega), fun _ => by rw [show (t + 1) / 8 = t / 8 by omega]⟩
    · rw [ebit]
      exact H _ _ _ ⟨by rw [er, jp_ps_s, if_neg z], by rw [er]; exact congrArg nI (by omega), fun _ => by rw [show (t + 1) / 8 = t / 8 by omega]⟩
  · have e1 : (t + 7) / 8 = t / 8 + 1 := by omega
    have er : (t + 1 + 7) / 8 = t / 8 + 1 := by omega
    have e2 : 8 * (t / 8 + 1) - t = 8 - t % 8 := by omega
    have h8' := h8 h
    subst h8'
    rw [e1, e2]
    have ebit : (nI (jp_bv B (t / 8)) >>> (nI (7 - t % 8) &&& 31)) &&& 1 = nI (B t) := by
      rw [jp_bitof (by omega) (by omega)]
      have h := jp_bit hB (t / 8) (i := t % 8) (by omega)
      rw [show 8 * (t / 8) + t % 8 = t by omega] at h
      rw [h]
    refine br_f (nI_ne0 (by omega) (by omega)) (nm_r (e' := nI (7 - t % 8)) ?_ ?_)
    · rw [show (1 : Int32) = nI 1 from rfl, pk_sub (by omega)]
      exact congrArg nI (by omega)
    · rw [ebit]
      exact H _ _ _ ⟨by rw [er], by rw [er]; exact congrArg nI (by omega), fun z => by rw [show (t + 1) / 8 = t / 8 by omega]⟩
theorem jq_getBits {post : Int32 → St2 → Prop} {B : Nat → Nat} {p m t n L : Nat} {f1 f2 f3 f4 f6 f7 f8 f9 f10 f11 : Int32} {a1 a2 a3 a4 a5 a6 a7 a8 a9 a10 a11 a12 a13 a14 a15 a16 : Nat → Int32} {a17 : Nat → Int64} (hB : ∀ t, B t < 2) (hl : jp_laid B p m a5) (hn : n ≤ 31) (ht : t + n ≤ 8 * m) (hL : jp_ps B p m ≤ L) (hL2 : L ≤ 1900) (hr : jp_r B p t f10 f8 f9)
    (H : ∀ ra bb bc, jp_r B p (t + n) ra bb bc → post (nI (jp_vb B t n)) (f1, f2, f3, f4, (nI L), f6, f7, bb, bc, ra, f11, a1, a2, a3, a4, a5, a6, a7, a8, a9, a10, a11, a12, a13, a14, a15, a16, a17)) : wpX_getBits post (f1, f2, f3, f4, (nI L), f6, f7, f8, f9, f10, f11, a1, a2, a3, a4, a5, a6, a7, a8, a9, a10, a11, a12, a13, a14, a15, a16, a17) (nI n) :=
  pk_loop (fun k i (s : Int32 × Int32 × Int32) => wX_getBits_4 post (nI n) k (nI (jp_vb B t i)) (nI i) f1 f2 f3 f4 (nI L) f6 f7 s.1 s.2.1 s.2.2 f11 a1 a2 a3 a4 a5 a6 a7 a8 a9 a10 a11 a12 a13 a14 a15 a16 a17) (fun i s => jp_r B p (t + i) s.2.2 s.1 s.2.1) n 0 (f8, f9, f10) (by omega) hr
    (fun k s h => pk_le n n (fun _ => H _ _ _ h) (fun z => absurd z (by omega)))
    (fun k i s hi h hw => pk_le n i (fun z => absurd z (by omega)) (fun _ => jq_getBit hB hl (by omega) hL hL2 h
      (fun ra bb bc hr => nm_r (jp_ix (jp_vb B t i) 2 (B (t + i))) (nm_r (nI_1 i) (hw (bb, bc, ra) hr)))))
/-- table tb's rows read the code c of l digits as symbol k -/
def jp_dc (w : Nat) (a9 a10 a11 a12 : Nat → Int32) (tb k c l : Nat) : Prop :=
  1 ≤ l ∧ l ≤ 16 ∧ c < 2 ^ l ∧ (∀ n, 1 ≤ n → n < l → ∃ f s : Nat, a10 (tb * 17 + n) = nI f ∧ a12 (tb * 17 + n) = nI s ∧ f + s ≤ c / 2 ^ (l - n)) ∧
  ∃ f q s : Nat, a10 (tb * 17 + l) = nI f ∧ a11 (tb * 17 + l) = nI q ∧ a12 (tb * 17 + l) = nI s ∧ f ≤ c ∧ c < f + s ∧ s ≤ 272 ∧ q + (c - f) < w ∧ a9 (q + (c - f)) = nI k
theorem jp_dc_keep {w tb k c l : Nat} {a9 a10 a11 a12 b9 b10 b11 b12 : Nat → Int32} (h : jp_dc w a9 a10 a11 a12 tb k c l) (hw : w ≤ 272) (h9 : ∀ j, j < w → b9 j = a9 j) (hr : ∀ n, n ≤ 16 → b10 (tb * 17 + n) = a10 (tb * 17 + n) ∧ b11 (tb * 17 + n) = a11 (tb * 17 + n) ∧ b12 (tb * 17 + n) = a12 (tb * 17 + n)) : jp_dc 272 b9 b10 b11 b12 tb k c l := by
  obtain ⟨h1, h16, hc, hlo, f, q, s, e10, e11, e12, hf, hs, hs2, hq, e9⟩ := h
  obtain ⟨g1, g2, g3⟩ := hr l h16
  refine ⟨h1, h16, hc, fun n n1 n2 => ?_, f, q, s, by rw [g1, e10], by rw [g2, e11], by rw [g3, e12], hf, hs, hs2, by omega, by rw [h9 _ hq, e9]⟩
  obtain ⟨f', s', e1, e2, e3⟩ := hlo n n1 n2
  obtain ⟨g1, g2, g3⟩ := hr n (by omega)
  exact ⟨f', s', by rw [g1, e1], by rw [g3, e2], e3⟩
theorem jq_getSymbol {post : Int32 → St2 → Prop} {B : Nat → Nat} {p m t L tb k c l : Nat} {f1 f2 f3 f4 f6 f7 f8 f9 f10 f11 : Int32} {a1 a2 a3 a4 a5 a6 a7 a8 a9 a10 a11 a12 a13 a14 a15 a16 : Nat → Int32} {a17 : Nat → Int64} (hB : ∀ t, B t < 2) (hl : jp_laid B p m a5) (hd : jp_dc 272 a9 a10 a11 a12 tb k c l) (htb : tb ≤ 1)
    (hb : ∀ i, i < l → B (t + i) = c / 2 ^ (l - 1 - i) % 2) (ht : t + l ≤ 8 * m) (hL : jp_ps B p m ≤ L) (hL2 : L ≤ 1900) (hr : jp_r B p t f10 f8 f9)
    (H : ∀ ra bb bc, jp_r B p (t + l) ra bb bc → post (nI k) (f1, f2, f3, f4, (nI L), f6, f7, bb, bc, ra, f11, a1, a2, a3, a4, a5, a6, a7, a8, a9, a10, a11, a12, a13, a14, a15, a16, a17)) : wpX_getSymbol post (f1, f2, f3, f4, (nI L), f6, f7, f8, f9, f10, f11, a1, a2, a3, a4, a5, a6, a7, a8, a9, a10, a11, a12, a13, a14, a15, a16, a17) (nI tb) := by
  obtain ⟨h1, h16, hc, hlo, f, q, s, e10, e11, e12, hf, hs, hs2, hq, e9⟩ := hd
  have hc16 : c < 65536 := Nat.lt_of_lt_of_le hc (jp_p2 h16)
  have hv := jp_vb_eq hb hc
  refine pk_loop (fun k i (s : Int32 × Int32 × Int32) => wX_getSymbol_4 post (nI tb) k (nI (jp_vb B t i)) (nI (i + 1)) f1 f2 f3 f4 (nI L) f6 f7 s.1 s.2.1 s.2.2 f11 a1 a2 a3 a4 a5 a6 a7 a8 a9 a10 a11 a12 a13 a14 a15 a16 a17) (fun i s => jp_r B p (t + i) s.2.2 s.1 s.2.1) (l - 1) 0 (f8, f9, f10) (by omega) hr ?_ ?_
  · intro k s' h
    have e1 : l - 1 + 1 = l := by omega
    have ecl : (nI tb * 17 + nI (l - 1 + 1)).toNatClampNeg = tb * 17 + (l - 1 + 1) := pk_cl _ (jp_ix tb 17 (l - 1 + 1))
    refine pk_lt 16 (l - 1 + 1) (fun z => absurd z (by omega)) (fun _ => jq_getBit hB hl (by omega) hL hL2 h (fun ra bb bc hr' => nm_r (jp_ix (jp_vb B t (l - 1)) 2 (B (t + (l - 1)))) ⟨pk_in (tb * 17 + (l - 1 + 1)) 34 (by omega) (jp_ix tb 17 (l - 1 + 1)), ?_⟩))
    have ev : jp_vb B t (l - 1) * 2 + B (t + (l - 1)) = c := by
      show jp_vb B t (l - 1 + 1) = c
      rw [e1, hv l (Nat.le_refl l), Nat.sub_self, Nat.pow_zero, Nat.div_one]
    rw [ecl, e1, ev, e10, e11, e12]
    refine nm_r (pk_sub hf) (br_f (nI_pos (by omega)) ⟨pk_in (tb * 17 + l) 34 (by omega) (jp_ix tb 17 l), pk_le s (c - f) (fun z => absurd z (by omega)) (fun _ => ⟨pk_in (tb * 17 + l) 34 (by omega) (jp_ix tb 17 l), pk_in (q + (c - f)) 272 hq (nI_add q (c - f)), ?_⟩)⟩)
    rw [nI_add, nI_clamp (by omega), e9]
    exact H ra bb bc (by rw [show t + (l - 1) + 1 = t + l by omega] at hr'; exact hr')
  · intro k i s' hi h hw
    have ecl : (nI tb * 17 + nI (i + 1)).toNatClampNeg = tb * 17 + (i + 1) := pk_cl _ (jp_ix tb 17 (i + 1))
    obtain ⟨f', s'', e10', e12', hfs⟩ := hlo (i + 1) (by omega) (by omega)
    have ev : jp_vb B t i * 2 + B (t + i) = c / 2 ^ (l - (i + 1)) := by
      show jp_vb B t (i + 1) = _
      rw [hv (i + 1) (by omega)]
    have hcv : c / 2 ^ (l - (i + 1)) ≤ c := Nat.div_le_self _ _
    refine pk_lt 16 (i + 1) (fun z => absurd z (by omega)) (fun _ => jq_getBit hB hl (by omega) hL hL2 h (fun ra bb bc hr' => nm_r (jp_ix (jp_vb B t i) 2 (B (t + i))) ⟨pk_in (tb * 17 + (i + 1)) 34 (by omega) (jp_ix tb 17 (i + 1)), ?_⟩))
    rw [ecl, e10', e12']
    refine nm_r (pk_sub (by rw [ev]; omega)) (br_f (nI_pos (by rw [ev]; omega)) ⟨pk_in (tb * 17 + (i + 1)) 34 (by omega) (jp_ix tb 17 (i + 1)), pk_le s'' (jp_vb B t i * 2 + B (t + i) - f') (fun _ => nm_r (nI_1 (i + 1)) (hw (bb, bc, ra) hr')) (fun z => absurd z (by rw [ev]; omega)) rfl rfl (by omega) (by rw [ev]; omega)⟩)
theorem jq_getValue {post : Int32 → St2 → Prop} {B : Nat → Nat} {p m t n v L : Nat} {f1 f2 f3 f4 f6 f7 f8 f9 f10 f11 : Int32} {a1 a2 a3 a4 a5 a6 a7 a8 a9 a10 a11 a12 a13 a14 a15 a16 : Nat → Int32} {a17 : Nat → Int64} (hB : ∀ t, B t < 2) (hl : jp_laid B p m a5) (hn : n ≤ 16) (hb : ∀ i, i < n → B (t + i) = v / 2 ^ (n - 1 - i) % 2) (hv : v < 2 ^ n) (ht : t + n ≤ 8 * m) (hL : jp_ps B p m ≤ L) (hL2 : L ≤ 1900) (hr : jp_r B p t f10 f8 f9)
    (H : ∀ ra bb bc, jp_r B p (t + n) ra bb bc → post (jp_z (jp_dv n v)) (f1, f2, f3, f4, (nI L), f6, f7, bb, bc, ra, f11, a1, a2, a3, a4, a5, a6, a7, a8, a9, a10, a11, a12, a13, a14, a15, a16, a17)) : wpX_getValue post (f1, f2, f3, f4, (nI L), f6, f7, f8, f9, f10, f11, a1, a2, a3, a4, a5, a6, a7, a8, a9, a10, a11, a12, a13, a14, a15, a16, a17) (nI n) := by
  by_cases h0 : n = 0
  · subst h0
    have h := H f10 f8 f9 hr
    have e : jp_z (jp_dv 0 v) = 0 := by
      unfold jp_dv
      rw [if_pos rfl]
      rfl
    rw [e] at h
    exact br_t rfl h
  · have hp : 2 ^ n ≤ 65536 := jp_p2 hn
    refine br_f (nI_ne0 (by omega) (by omega)) (jq_getBits hB hl (by omega) ht hL hL2 hr (fun ra bb bc hr' => ?_))
    rw [jp_vb_all hb hv]
    have e1 : (nI v >>> ((nI n - 1) &&& 31)) = nI (v / 2 ^ (n - 1)) := by
      rw [show (1 : Int32) = nI 1 from rfl, pk_sub (by omega), jp_shr (by omega) (by omega)]
    have e2 : (1 : Int32) <<< (nI n &&& 31) = nI (2 ^ n) := by
      rw [show (1 : Int32) = nI 1 from rfl, jp_shl (by omega) (by omega), Nat.one_mul]
    have h := H ra bb bc hr'
    have hvd : v / 2 ^ (n - 1) ≤ v := Nat.div_le_self _ _
    refine pk_eq (v / 2 ^ (n - 1)) 1 (fun z => ?_) (fun z => ?_) e1 rfl (by omega)
    · have e : jp_z (jp_dv n v) = nI v := by
        unfold jp_dv
        rw [if_neg h0, if_pos z, jp_zn]
      rw [e] at h
      exact h
    · have e : jp_z (jp_dv n v) = (nI v - ((1 : Int32) <<< (nI n &&& 31))) + 1 := by
        unfold jp_dv
        rw [if_neg h0, if_neg z, e2, ← jp_zn, ← jp_zn, show (1 : Int32) = jp_z 1 from rfl, jp_zsub, jp_zadd]
        simp
      rw [e] at h
      exact h
end
section
/-! sums over a row of symbols -/
def jp_sm (f : Nat → Nat) (fr : Nat) : Nat → Nat
  | 0 => 0
  | n + 1 => jp_sm f fr n + f (fr + n)
theorem jp_sm_s (f : Nat → Nat) (fr n : Nat) : jp_sm f fr (n + 1) = jp_sm f fr n + f (fr + n) := rfl
theorem jp_sm_le {f g : Nat → Nat} {fr : Nat} : ∀ n, (∀ k, fr ≤ k → k < fr + n → f k ≤ g k) → jp_sm f fr n ≤ jp_sm g fr n := by
  intro n
  induction n with
  | zero => intro _; exact Nat.le_refl _
  | succ n ih =>
    intro h
    have h1 := ih (fun k h1 h2 => h k h1 (by omega))
    have h2 := h (fr + n) (by omega) (by omega)
    rw [jp_sm_s, jp_sm_s]
    omega
theorem jp_sm_add {f g e : Nat → Nat} {fr : Nat} : ∀ n, (∀ k, fr ≤ k → k < fr + n → f k = g k + e k) → jp_sm f fr n = jp_sm g fr n + jp_sm e fr n := by
  intro n
  induction n with
  | zero => intro _; rfl
  | succ n ih =>
    intro h
    have h1 := ih (fun k h1 h2 => h k h1 (by omega))
    have h2 := h (fr + n) (by omega) (by omega)
    rw [jp_sm_s, jp_sm_s, jp_sm_s]
    omega
theorem jp_sm_mul {f g : Nat → Nat} {fr c : Nat} : ∀ n, (∀ k, fr ≤ k → k < fr + n → f k = c * g k) → jp_sm f fr n = c * jp_sm g fr n := by
  intro n
  induction n with
  | zero => intro _; rfl
  | succ n ih =>
    intro h
    have h1 := ih (fun k h1 h2 => h k h1 (by omega))
    have h2 := h (fr + n) (by omega) (by omega)
    rw [jp_sm_s, jp_sm_s, h1, h2, Nat.mul_add]
theorem jp_sm_congr {f g : Nat → Nat} {fr : Nat} (n : Nat) (h : ∀ k, fr ≤ k → k < fr + n → f k = g k) : jp_sm f fr n = jp_sm g fr n := by
  have h1 := jp_sm_mul (c := 1) n (fun k h1 h2 => by rw [h k h1 h2, Nat.one_mul] : ∀ k, fr ≤ k → k < fr + n → f k = 1 * g k)
  rw [h1, Nat.one_mul]
theorem jp_sm_at {fr s c : Nat} : ∀ n, jp_sm (fun k => if s = k then c else 0) fr n = if fr ≤ s ∧ s < fr + n then c else 0 := by
  intro n
  induction n with
  | zero =>
    rw [if_neg (by omega)]
    rfl
  | succ n ih =>
    rw [jp_sm_s, ih]
    by_cases h : s = fr + n
    · rw [if_neg (by omega), if_pos h, if_pos (by omega), Nat.zero_add]
    · by_cases h2 : fr ≤ s ∧ s < fr + n
      · rw [if_pos h2, if_neg h, if_pos (by omega), Nat.add_zero]
      · rw [if_neg h2, if_neg h, if_neg (by omega)]
theorem jp_sm_mono {f : Nat → Nat} {fr i n : Nat} (h : i ≤ n) : jp_sm f fr i ≤ jp_sm f fr n := by
  induction n with
  | zero => rw [show i = 0 by omega]; exact Nat.le_refl _
  | succ n ih =>
    by_cases e : i = n + 1
    · rw [e]; exact Nat.le_refl _
    · have := ih (by omega)
      rw [jp_sm_s]
      omega
theorem jp_sm_lt {f : Nat → Nat} {fr i n : Nat} (h : i < n) (hf : 0 < f (fr + i)) : jp_sm f fr i < jp_sm f fr n := by
  have h1 := jp_sm_mono (f := f) (fr := fr) (show i + 1 ≤ n by omega)
  rw [jp_sm_s] at h1
  omega
theorem jp_sm_n {f : Nat → Nat} {fr : Nat} (n : Nat) (h : ∀ k, f k ≤ 1) : jp_sm f fr n ≤ n := by
  induction n with
  | zero => exact Nat.le_refl _
  | succ n ih =>
    have := h (fr + n)
    rw [jp_sm_s]
    omega
/-! codes by lengths: how many symbols have length n, the first code of a length, its first place -/
def jp_ct (ln : Nat → Nat) (fr n : Nat) : Nat → Nat := jp_sm (fun k => if ln k = n then 1 else 0) fr
def jp_fc (ln : Nat → Nat) (fr N : Nat) : Nat → Nat
  | 0 => 0
  | n + 1 => if n = 0 then 0 else 2 * (jp_fc ln fr N n + jp_ct ln fr n N)
def jp_pl (ln : Nat → Nat) (fr N n : Nat) : Nat := fr + jp_sm (fun k => if 1 ≤ ln k ∧ ln k < n then 1 else 0) fr N
def jp_kr (ln : Nat → Nat) (n : Nat) : Nat → Nat := fun k => if 1 ≤ ln k ∧ ln k < n then 2 ^ (16 - ln k) else 0
theorem jp_fc_1 (ln : Nat → Nat) (fr N : Nat) : jp_fc ln fr N 1 = 0 := rfl
theorem jp_fc_s (ln : Nat → Nat) (fr N : Nat) {n : Nat} (h : 1 ≤ n) : jp_fc ln fr N (n + 1) = 2 * (jp_fc ln fr N n + jp_ct ln fr n N) := if_neg (by omega)
theorem jp_pl_1 (ln : Nat → Nat) (fr N : Nat) : jp_pl ln fr N 1 = fr := by
  have h := jp_sm_mul (f := fun k => if 1 ≤ ln k ∧ ln k < 1 then 1 else 0) (g := fun _ => 0) (fr := fr) (c := 0) N (fun k _ _ => if_neg (by omega))
  unfold jp_pl
  rw [h, Nat.zero_mul, Nat.add_zero]
theorem jp_pl_s (ln : Nat → Nat) (fr N : Nat) {n : Nat} (h : 1 ≤ n) : jp_pl ln fr N (n + 1) = jp_pl ln fr N n + jp_ct ln fr n N := by
  have h1 := jp_sm_add (f := fun k => if 1 ≤ ln k ∧ ln k < n + 1 then 1 else 0) (g := fun k => if 1 ≤ ln k ∧ ln k < n then 1 else 0) (e := fun k => if ln k = n then 1 else 0) (fr := fr) N (fun k _ _ => by
    (try dsimp only)
    by_cases e : ln k = n
    · rw [if_pos (by omega), if_neg (by omega), if_pos e]
    · by_cases e2 : 1 ≤ ln k ∧ ln k < n
      · rw [if_pos (by omega), if_pos e2, if_neg e]
      · rw [if_neg (by omega), if_neg e2, if_neg e])
  unfold jp_pl jp_ct
  rw [h1, Nat.add_assoc]
theorem jp_pl_le (ln : Nat → Nat) (fr N n : Nat) : jp_pl ln fr N n ≤ fr + N := by
  have := jp_sm_n (f := fun k => if 1 ≤ ln k ∧ ln k < n then 1 else 0) (fr := fr) N (fun k => by (try dsimp only); split <;> omega)
  unfold jp_pl
  omega
theorem jp_pl_ge (ln : Nat → Nat) (fr N n : Nat) : fr ≤ jp_pl ln fr N n := Nat.le_add_right _ _
theorem jp_pl_mono (ln : Nat → Nat) (fr N : Nat) {a b : Nat} (h : a ≤ b) : jp_pl ln fr N a ≤ jp_pl ln fr N b := by
  have := jp_sm_le (f := fun k => if 1 ≤ ln k ∧ ln k < a then 1 else 0) (g := fun k => if 1 ≤ ln k ∧ ln k < b then 1 else 0) (fr := fr) N (fun k _ _ => by
    (try dsimp only)
    by_cases e : 1 ≤ ln k ∧ ln k < a
    · rw [if_pos e, if_pos (by omega)]; omega
    · rw [if_neg e]; omega)
  unfold jp_pl
  omega
theorem jp_ct_s (ln : Nat → Nat) (fr n j : Nat) : jp_ct ln fr n (j + 1) = jp_ct ln fr n j + (if ln (fr + j) = n then 1 else 0) := rfl
theorem jp_ct_le (ln : Nat → Nat) (fr n : Nat) {i j : Nat} (h : i ≤ j) : jp_ct ln fr n i ≤ jp_ct ln fr n j := jp_sm_mono h
theorem jp_ct_lt (ln : Nat → Nat) (fr : Nat) {n i j : Nat} (h : i < j) (he : ln (fr + i) = n) : jp_ct ln fr n i < jp_ct ln fr n j := jp_sm_lt h (by (try dsimp only); rw [if_pos he]; omega)
theorem jp_ct_N (ln : Nat → Nat) (fr n N : Nat) : jp_ct ln fr n N ≤ N := jp_sm_n N (fun k => by (try dsimp only); split <;> omega)
/-- the place of symbol fr + j -/
theorem jp_place (ln : Nat → Nat) (fr N : Nat) {n j : Nat} (h1 : 1 ≤ n) (hj : j < N) (he : ln (fr + j) = n) : jp_pl ln fr N n + jp_ct ln fr n j < fr + N := by
  have h2 := jp_pl_le ln fr N (n + 1)
  rw [jp_pl_s ln fr N h1] at h2
  have h3 := jp_ct_lt ln fr hj he
  omega
theorem jp_kr_s (ln : Nat → Nat) (fr N : Nat) {n : Nat} (h : 1 ≤ n) : jp_sm (jp_kr ln (n + 1)) fr N = jp_sm (jp_kr ln n) fr N + jp_ct ln fr n N * 2 ^ (16 - n) := by
  have h0 := jp_sm_mul (f := fun k => if ln k = n then 2 ^ (16 - n) else 0) (g := fun k => if ln k = n then 1 else 0) (fr := fr) (c := 2 ^ (16 - n)) N (fun k _ _ => by
    (try dsimp only)
    split
    · rw [Nat.mul_one]
    · rw [Nat.mul_zero])
  have h1 := jp_sm_add (f := jp_kr ln (n + 1)) (g := jp_kr ln n) (e := fun k => if ln k = n then 2 ^ (16 - n) else 0) (fr := fr) N (fun k _ _ => by
    unfold jp_kr
    by_cases e : ln k = n
    · rw [if_pos (by omega), if_neg (by omega), if_pos e, e, Nat.zero_add]
    · by_cases e2 : 1 ≤ ln k ∧ ln k < n
      · rw [if_pos (by omega), if_pos e2, if_neg e, Nat.add_zero]
      · rw [if_neg (by omega), if_neg e2, if_neg e])
  rw [h1, h0, Nat.mul_comm]
  rfl
theorem jp_fc_kr (ln : Nat → Nat) (fr N : Nat) : ∀ n, n ≤ 15 → jp_fc ln fr N (n + 1) * 2 ^ (15 - n) = jp_sm (jp_kr ln (n + 1)) fr N := by
  intro n
  induction n with
  | zero =>
    intro _
    have h := jp_sm_mul (f := jp_kr ln 1) (g := fun _ => 0) (fr := fr) (c := 0) N (fun k _ _ => if_neg (by omega))
    rw [h, jp_fc_1, Nat.zero_mul, Nat.zero_mul]
  | succ n ih =>
    intro hn
    rw [jp_fc_s ln fr N (by omega), jp_kr_s ln fr N (by omega), ← ih (by omega), show 16 - (n + 1) = 15 - n by omega, ← Nat.add_mul, show 15 - n = 15 - (n + 1) + 1 by omega, Nat.pow_succ]
    rw [Nat.mul_comm 2, Nat.mul_assoc, Nat.mul_comm 2]
/-- the sum of Kraft -/
def jp_kraft (ln : Nat → Nat) (fr N : Nat) : Prop := jp_sm (fun k => if ln k = 0 then 0 else 2 ^ (16 - ln k)) fr N ≤ 65536
theorem jp_fc_fit {ln : Nat → Nat} {fr N : Nat} (hk : jp_kraft ln fr N) {n : Nat} (h1 : 1 ≤ n) (h2 : n ≤ 16) : jp_fc ln fr N n + jp_ct ln fr n N ≤ 2 ^ n := by
  have e := jp_fc_kr ln fr N (n - 1) (by omega)
  rw [show n - 1 + 1 = n by omega, show 15 - (n - 1) = 16 - n by omega] at e
  have e2 := jp_kr_s ln fr N h1
  rw [← e, ← Nat.add_mul] at e2
  have h3 := jp_sm_le (f := jp_kr ln (n + 1)) (g := fun k => if ln k = 0 then 0 else 2 ^ (16 - ln k)) (fr := fr) N (fun k _ _ => by
    unfold jp_kr
    (try dsimp only)
    by_cases e : 1 ≤ ln k ∧ ln k < n + 1
    · rw [if_pos e, if_neg (by omega)]; omega
    · rw [if_neg e]; omega)
  unfold jp_kraft at hk
  rw [e2] at h3
  have h4 : (jp_fc ln fr N n + jp_ct ln fr n N) * 2 ^ (16 - n) ≤ 2 ^ n * 2 ^ (16 - n) := by
    rw [← Nat.pow_add, show n + (16 - n) = 16 by omega]
    exact Nat.le_trans h3 hk
  exact Nat.le_of_mul_le_mul_right h4 (Nat.two_pow_pos _)
theorem jp_fc_up (ln : Nat → Nat) (fr N : Nat) {n : Nat} (h1 : 1 ≤ n) : ∀ d, (jp_fc ln fr N n + jp_ct ln fr n N) * 2 ^ (d + 1) ≤ jp_fc ln fr N (n + d + 1) := by
  intro d
  induction d with
  | zero =>
    rw [Nat.add_zero, jp_fc_s ln fr N h1]
    omega
  | succ d ih =>
    rw [show n + (d + 1) + 1 = n + d + 1 + 1 by omega, jp_fc_s ln fr N (by omega), Nat.pow_succ, ← Nat.mul_assoc]
    omega
/-- the rows that makeCodes writes read a code back -/
theorem jp_dc_of {ln : Nat → Nat} {fr N tb : Nat} {a9 a10 a11 a12 : Nat → Int32} (hk : jp_kraft ln fr N) (hN : fr + N ≤ 272)
    (hr : ∀ n, 1 ≤ n → n ≤ 16 → a10 (tb * 17 + n) = nI (jp_fc ln fr N n) ∧ a11 (tb * 17 + n) = nI (jp_pl ln fr N n) ∧ a12 (tb * 17 + n) = nI (jp_ct ln fr n N))
    (hs : ∀ j, j < N → 1 ≤ ln (fr + j) → ln (fr + j) ≤ 16 → a9 (jp_pl ln fr N (ln (fr + j)) + jp_ct ln fr (ln (fr + j)) j) = nI (fr + j))
    {j : Nat} (hj : j < N) (h1 : 1 ≤ ln (fr + j)) (h2 : ln (fr + j) ≤ 16) :
    jp_dc (fr + N) a9 a10 a11 a12 tb (fr + j) (jp_fc ln fr N (ln (fr + j)) + jp_ct ln fr (ln (fr + j)) j) (ln (fr + j)) := by
  have h3 := jp_ct_lt ln fr (n := ln (fr + j)) hj rfl
  have h4 := jp_fc_fit hk h1 h2
  obtain ⟨e10, e11, e12⟩ := hr _ h1 h2
  refine ⟨h1, h2, by omega, fun n hn hn2 => ?_, _, _, _, e10, e11, e12, by omega, by omega, ?_, ?_, ?_⟩
  · obtain ⟨g10, g11, g12⟩ := hr n hn (by omega)
    refine ⟨_, _, g10, g12, ?_⟩
    rw [Nat.le_div_iff_mul_le (Nat.two_pow_pos _)]
    have h5 := jp_fc_up ln fr N hn (ln (fr + j) - n - 1)
    rw [show ln (fr + j) - n - 1 + 1 = ln (fr + j) - n by omega, show n + (ln (fr + j) - n - 1) + 1 = ln (fr + j) by omega] at h5
    omega
  · have := jp_ct_N ln fr (ln (fr + j)) N
    omega
  · have := jp_place ln fr N h1 hj rfl
    rw [Nat.add_sub_cancel_left]
    omega
  · rw [Nat.add_sub_cancel_left]
    exact hs j hj h1 h2
end
section
/-! walks: the lightest node, depths, the forest of makeLengths -/
def jp_lv (a6 a7 : Nat → Int32) (to k : Nat) : Prop := (k < to ∨ 272 ≤ k) ∧ ¬ a6 k ≤ 0 ∧ ¬ 0 ≤ a7 k
theorem jq_lightest {post : Int32 → Prop} {fr to nx : Nat} {f1 f2 f3 f4 f5 f6 f7 f8 f9 f10 f11 : Int32} {a1 a2 a3 a4 a5 a6 a7 a8 a9 a10 a11 a12 a13 a14 a15 a16 : Nat → Int32} {a17 : Nat → Int64} (hf : fr ≤ nx) (ht : to ≤ 272) (hn : nx ≤ 544)
    (H0 : (∀ k, fr ≤ k → k < nx → ¬ jp_lv a6 a7 to k) → post (-1)) (H1 : ∀ a, fr ≤ a → a < nx → jp_lv a6 a7 to a → post (nI a)) :
    wpX_lightest post (f1, f2, f3, f4, f5, f6, f7, f8, f9, f10, f11, a1, a2, a3, a4, a5, a6, a7, a8, a9, a10, a11, a12, a13, a14, a15, a16, a17) (nI fr) (nI to) 272 (nI nx) := by
  refine pk_loop (fun n k (s : Int32) => wX_lightest_6 post (nI to) 272 (nI nx) f1 f2 f3 f4 f5 f6 f7 f8 f9 f10 f11 a1 a2 a3 a4 a5 a6 a7 a8 a9 a10 a11 a12 a13 a14 a15 a16 a17 n s (nI k)) (fun k s => fr ≤ k ∧ ((s = -1 ∧ ∀ j, fr ≤ j → j < k → ¬ jp_lv a6 a7 to j) ∨ ∃ a, fr ≤ a ∧ a < k ∧ jp_lv a6 a7 to a ∧ s = nI a)) nx fr (-1) hf ⟨Nat.le_refl _, Or.inl ⟨rfl, fun j h1 h2 => absurd h2 (by omega)⟩⟩ ?_ ?_
  · intro n s h
    refine pk_le nx nx (fun _ => ?_) (fun z => absurd z (by omega))
    rcases h.2 with ⟨rfl, h'⟩ | ⟨a, h1, h2, h3, rfl⟩
    · exact H0 h'
    · exact H1 a h1 h2 h3
  · intro n k s hk h hw
    obtain ⟨hfk, h⟩ := h
    have new : jp_lv a6 a7 to k → wX_lightest_6 post (nI to) 272 (nI nx) f1 f2 f3 f4 f5 f6 f7 f8 f9 f10 f11 a1 a2 a3 a4 a5 a6 a7 a8 a9 a10 a11 a12 a13 a14 a15 a16 a17 n (nI k) (nI k + 1) := fun z => by
      rw [nI_1]
      exact hw _ ⟨by omega, Or.inr ⟨k, hfk, by omega, z, rfl⟩⟩
    have keep : ¬ jp_lv a6 a7 to k ∨ (∃ a, fr ≤ a ∧ a < k ∧ jp_lv a6 a7 to a ∧ s = nI a) → wX_lightest_6 post (nI to) 272 (nI nx) f1 f2 f3 f4 f5 f6 f7 f8 f9 f10 f11 a1 a2 a3 a4 a5 a6 a7 a8 a9 a10 a11 a12 a13 a14 a15 a16 a17 n s (nI k + 1) := fun z => by
      rw [nI_1]
      refine hw _ ⟨by omega, ?_⟩
      rcases h with ⟨e, h⟩ | ⟨a, h1, h2, h3, e⟩
      · rcases z with z | ⟨a, h1, h2, h3, e⟩
        · refine Or.inl ⟨e, fun j h1 h2 => ?_⟩
          by_cases ej : j = k
          · rw [ej]; exact z
          · exact h j h1 (by omega)
        · exact Or.inr ⟨a, h1, by omega, h3, e⟩
      · exact Or.inr ⟨a, h1, by omega, h3, e⟩
    have L25 : (k < to ∨ 272 ≤ k) → wX_lightest_25 post (wX_lightest_6 post (nI to) 272 (nI nx) f1 f2 f3 f4 f5 f6 f7 f8 f9 f10 f11 a1 a2 a3 a4 a5 a6 a7 a8 a9 a10 a11 a12 a13 a14 a15 a16 a17 n) (nI to) 272 (nI nx) s (nI k) f1 f2 f3 f4 f5 f6 f7 f8 f9 f10 f11 a1 a2 a3 a4 a5 a6 a7 a8 a9 a10 a11 a12 a13 a14 a15 a16 a17 := by
      intro own
      refine br_f (by decide) ⟨pk_in k 544 (by omega), ?_⟩
      rw [nI_clamp (by omega)]
      refine br_c (fun z => nm_e (keep (Or.inl (fun y => y.2.1 z)))) (fun z => ⟨pk_in k 544 (by omega), br_c (fun z2 => nm_e (keep (Or.inl (fun y => y.2.2 z2)))) (fun z2 => ?_)⟩)
      rcases h with ⟨rfl, h⟩ | ⟨a, h1, h2, h3, rfl⟩
      · exact br_t (by decide) (nm_e (new ⟨own, z, z2⟩))
      · refine br_f (nI_pos (by omega)) ⟨pk_in k 544 (by omega), pk_in a 544 (by omega), ?_⟩
        exact br_c (fun _ => nm_e (keep (Or.inr ⟨a, h1, h2, h3, rfl⟩))) (fun _ => nm_e (new ⟨own, z, z2⟩))
    refine pk_le nx k (fun z => absurd z (by omega)) (fun _ => pk_lt k to (fun z => L25 (Or.inl z)) (fun z => pk_lt k 272 (fun z2 => ?_) (fun z2 => L25 (Or.inr z2))))
    exact br_t rfl (nm_e (keep (Or.inl (fun y => by have := y.1; omega))))
/-- d steps up from k lead to r -/
def jp_up (a7 : Nat → Int32) : Nat → Nat → Nat → Prop
  | 0, k, r => k = r
  | d + 1, k, r => ∃ j, j < 544 ∧ a7 k = nI j ∧ jp_up a7 d j r
theorem jp_up_ext {a7 b7 : Nat → Int32} (h : ∀ k, 0 ≤ a7 k → b7 k = a7 k) : ∀ (d k r : Nat), jp_up a7 d k r → jp_up b7 d k r := by
  intro d
  induction d with
  | zero => intro k r hu; exact hu
  | succ d ih =>
    intro k r hu
    obtain ⟨j, hj, e, hu⟩ := hu
    exact ⟨j, hj, by rw [h k (by rw [e]; exact nI_pos' (by omega)), e], ih j r hu⟩
theorem jp_up_end {a7 : Nat → Int32} {j : Nat} (hj : j < 544) : ∀ (d k r : Nat), jp_up a7 d k r → a7 r = nI j → jp_up a7 (d + 1) k j := by
  intro d
  induction d with
  | zero =>
    intro k r hu e
    have hu' : k = r := hu
    subst hu'
    exact ⟨j, hj, e, rfl⟩
  | succ d ih =>
    intro k r hu e
    obtain ⟨i, hi, e1, hu⟩ := hu
    exact ⟨i, hi, e1, ih i r hu e⟩
theorem jq_dep18 {post : Int32 → Prop} {f1 f2 f3 f4 f5 f6 f7 f8 f9 f10 f11 : Int32} {a1 a2 a3 a4 a5 a6 a7 a8 a9 a10 a11 a12 a13 a14 a15 a16 : Nat → Int32} {a17 : Nat → Int64} {r : Nat} (hr : a7 r < 0) : ∀ (d i k : Nat), jp_up a7 d k r → k < 544 → i + d ≤ 31 → wX_depthOf_50 post (nI (i + d)) f1 f2 f3 f4 f5 f6 f7 f8 f9 f10 f11 a1 a2 a3 a4 a5 a6 a7 a8 a9 a10 a11 a12 a13 a14 a15 a16 a17 → wX_depthOf_18 post f1 f2 f3 f4 f5 f6 f7 f8 f9 f10 f11 a1 a2 a3 a4 a5 a6 a7 a8 a9 a10 a11 a12 a13 a14 a15 a16 a17 (d + 1) (nI i) (nI k) (nI i) := by
  intro d
  induction d with
  | zero =>
    intro i k hu hk hi H
    have hu' : k = r := hu
    subst hu'
    refine pk_le 32 i (fun z => absurd z (by omega)) (fun _ => ⟨pk_in k 544 hk, ?_⟩)
    rw [nI_clamp (by omega)]
    exact br_t hr H
  | succ d ih =>
    intro i k hu hk hi H
    obtain ⟨j, hj, e, hu⟩ := hu
    refine pk_le 32 i (fun z => absurd z (by omega)) (fun _ => ⟨pk_in k 544 hk, ?_⟩)
    rw [nI_clamp (by omega), e]
    refine br_f (nI_pos (by omega)) ⟨pk_in k 544 hk, nm_e (nm_r (nI_1 i) (nm_r (nI_1 i) (ih (i + 1) j hu hj (by omega) ?_)))⟩
    rw [show i + 1 + d = i + (d + 1) by omega]
    exact H
theorem jq_depthOf {post : Int32 → Prop} {f1 f2 f3 f4 f5 f6 f7 f8 f9 f10 f11 : Int32} {a1 a2 a3 a4 a5 a6 a7 a8 a9 a10 a11 a12 a13 a14 a15 a16 : Nat → Int32} {a17 : Nat → Int64} {k d r : Nat} (hk : k < 544) (h0 : a6 k = 0 → post 0) (h1 : ¬ a6 k = 0 → jp_up a7 d k r ∧ a7 r < 0 ∧ d ≤ 31 ∧ post (nI (if d = 0 then 1 else d))) : wpX_depthOf post (f1, f2, f3, f4, f5, f6, f7, f8, f9, f10, f11, a1, a2, a3, a4, a5, a6, a7, a8, a9, a10, a11, a12, a13, a14, a15, a16, a17) (nI k) := by
  refine ⟨pk_in k 544 hk, ?_⟩
  rw [nI_clamp (by omega)]
  refine br_c h0 (fun z => ?_)
  obtain ⟨hu, hr, hd, hp⟩ := h1 z
  refine ⟨d + 1, jq_dep18 hr d 0 k hu hk (by omega) ?_⟩
  rw [Nat.zero_add]
  refine pk_eq d 0 (fun e => ?_) (fun e => ?_)
  · rw [if_pos e] at hp
    exact hp
  · rw [if_neg e] at hp
    exact hp
/-! the forest: s 0 .. s 3 are the symbols in use, rt their roots, dp their depths -/
abbrev jp_us (s : Nat → Nat) (k : Nat) : Prop := s 0 = k ∨ s 1 = k ∨ s 2 = k ∨ s 3 = k
theorem jp_us_of {s : Nat → Nat} {i : Nat} (hi : i < 4) : jp_us s (s i) := by
  rcases (by omega : i = 0 ∨ i = 1 ∨ i = 2 ∨ i = 3) with rfl | rfl | rfl | rfl
  · exact Or.inl rfl
  · exact Or.inr (Or.inl rfl)
  · exact Or.inr (Or.inr (Or.inl rfl))
  · exact Or.inr (Or.inr (Or.inr rfl))
theorem jp_us_to {s : Nat → Nat} {k : Nat} (h : jp_us s k) : ∃ i, i < 4 ∧ k = s i := by
  rcases h with h | h | h | h
  · exact ⟨0, by omega, h.symm⟩
  · exact ⟨1, by omega, h.symm⟩
  · exact ⟨2, by omega, h.symm⟩
  · exact ⟨3, by omega, h.symm⟩
def jp_gs (s rt dp : Nat → Nat) (r : Nat) : Nat → Nat := fun k => if jp_us s k ∧ rt k = r then 2 ^ (16 - dp k) else 0
def jp_gt (s dp : Nat → Nat) : Nat → Nat := fun k => if jp_us s k then 2 ^ (16 - dp k) else 0
def jp_fo (s : Nat → Nat) (fr to m : Nat) (a6 a7 : Nat → Int32) (rt dp : Nat → Nat) : Prop :=
  (∀ i, i < 4 → fr ≤ rt (s i) ∧ rt (s i) < 272 + m ∧ jp_lv a6 a7 to (rt (s i)) ∧ jp_up a7 (dp (s i)) (s i) (rt (s i)) ∧ jp_sm (jp_gs s rt dp (rt (s i))) fr (to - fr) = 65536 ∧ dp (s i) ≤ m ∧ ∃ w, 0 < w ∧ w ≤ 4 * 2 ^ m ∧ a6 (rt (s i)) = nI w) ∧
  (∀ k, fr ≤ k → k < 272 + m → jp_lv a6 a7 to k → ∃ i, i < 4 ∧ k = rt (s i)) ∧
  (∀ k, 272 + m ≤ k → k < 544 → a7 k = -1) ∧
  jp_sm (jp_gt s dp) fr (to - fr) + 65536 * m ≤ 4 * 65536
theorem jp_fo_m {s : Nat → Nat} {fr to m : Nat} {a6 a7 : Nat → Int32} {rt dp : Nat → Nat} (h : jp_fo s fr to m a6 a7 rt dp) : m ≤ 3 := by
  obtain ⟨h1, _, _, h4⟩ := h
  have h5 := (h1 0 (by omega)).2.2.2.2.1
  have h6 := jp_sm_le (f := jp_gs s rt dp (rt (s 0))) (g := jp_gt s dp) (fr := fr) (to - fr) (fun k _ _ => by
    unfold jp_gs jp_gt
    by_cases e : jp_us s k ∧ rt k = rt (s 0)
    · rw [if_pos e, if_pos e.1]; exact Nat.le_refl _
    · rw [if_neg e]; exact Nat.zero_le _)
  omega
theorem jp_fo_0 {s : Nat → Nat} {fr to : Nat} {a6 a7 : Nat → Int32} (hs : ∀ i, i < 4 → fr ≤ s i ∧ s i < to) (hto : to ≤ 272) (hw : ∀ i, i < 4 → ∃ w, 0 < w ∧ w ≤ 4 ∧ a6 (s i) = nI w)
    (hu : ∀ k, fr ≤ k → k < to → ¬ jp_us s k → a6 k = 0) (h7 : ∀ k, k < 544 → a7 k = -1) : jp_fo s fr to 0 a6 a7 (fun k => k) (fun _ => 0) := by
  have hft : fr ≤ to := by have := hs 0 (by omega); omega
  refine ⟨fun i hi => ?_, fun k h1 h2 h3 => ?_, fun k _ h2 => h7 k h2, ?_⟩
  · obtain ⟨w, w1, w2, w3⟩ := hw i hi
    obtain ⟨s1, s2⟩ := hs i hi
    dsimp only
    refine ⟨s1, by omega, ⟨Or.inl s2, by rw [w3]; exact nI_nle w1 (by omega), by rw [h7 _ (by omega)]; decide⟩, rfl, ?_, by omega, w, w1, by omega, w3⟩
    rw [jp_sm_congr (g := fun k => if s i = k then 65536 else 0) (to - fr) (fun k _ _ => ?_), jp_sm_at, if_pos (by omega)]
    unfold jp_gs
    by_cases e : s i = k
    · subst e
      rw [if_pos ⟨jp_us_of hi, rfl⟩, if_pos rfl]
      rfl
    · rw [if_neg (fun z => e z.2.symm), if_neg e]
  · by_cases e : jp_us s k
    · obtain ⟨i, hi, e⟩ := jp_us_to e
      exact ⟨i, hi, e⟩
    · have h4 : k < to := by have := h3.1; omega
      exact absurd (show a6 k ≤ 0 by rw [hu k h1 h4 e]; decide) h3.2.1
  · have g0 := jp_sm_at (fr := fr) (s := s 0) (c := 65536) (to - fr)
    have g1 := jp_sm_at (fr := fr) (s := s 1) (c := 65536) (to - fr)
    have g2 := jp_sm_at (fr := fr) (s := s 2) (c := 65536) (to - fr)
    have g3 := jp_sm_at (fr := fr) (s := s 3) (c := 65536) (to - fr)
    have q1 := jp_sm_add (f := fun k => (if s 0 = k then 65536 else 0) + (if s 1 = k then 65536 else 0)) (g := fun k => if s 0 = k then 65536 else 0) (e := fun k => if s 1 = k then 65536 else 0) (fr := fr) (to - fr) (fun _ _ _ => rfl)
    have q2 := jp_sm_add (f := fun k => ((if s 0 = k then 65536 else 0) + (if s 1 = k then 65536 else 0)) + (if s 2 = k then 65536 else 0)) (g := fun k => (if s 0 = k then 65536 else 0) + (if s 1 = k then 65536 else 0)) (e := fun k => if s 2 = k then 65536 else 0) (fr := fr) (to - fr) (fun _ _ _ => rfl)
    have q3 := jp_sm_add (f := fun k => (((if s 0 = k then 65536 else 0) + (if s 1 = k then 65536 else 0)) + (if s 2 = k then 65536 else 0)) + (if s 3 = k then 65536 else 0)) (g := fun k => ((if s 0 = k then 65536 else 0) + (if s 1 = k then 65536 else 0)) + (if s 2 = k then 65536 else 0)) (e := fun k => if s 3 = k then 65536 else 0) (fr := fr) (to - fr) (fun _ _ _ => rfl)
    have q := jp_sm_le (f := jp_gt s (fun _ => 0)) (g := fun k => (((if s 0 = k then 65536 else 0) + (if s 1 = k then 65536 else 0)) + (if s 2 = k then 65536 else 0)) + (if s 3 = k then 65536 else 0)) (fr := fr) (to - fr) (fun k _ _ => by
      unfold jp_gt
      (try dsimp only)
      by_cases e : jp_us s k
      · rw [if_pos e, Nat.sub_zero]
        rcases e with e | e | e | e <;> rw [if_pos e] <;> omega
      · rw [if_neg e]; exact Nat.zero_le _)
    have c0 : ∀ (c : Prop) [Decidable c], (if c then 65536 else 0) ≤ 65536 := fun c _ => by split <;> omega
    have := c0 (fr ≤ s 0 ∧ s 0 < fr + (to - fr))
    have := c0 (fr ≤ s 1 ∧ s 1 < fr + (to - fr))
    have := c0 (fr ≤ s 2 ∧ s 2 < fr + (to - fr))
    have := c0 (fr ≤ s 3 ∧ s 3 < fr + (to - fr))
    omega
theorem jp_fo_join {s : Nat → Nat} {fr to m : Nat} {a6 a7 : Nat → Int32} {rt dp : Nat → Nat} (h : jp_fo s fr to m a6 a7 rt dp) {a b : Nat} (ha : fr ≤ a ∧ a < 272 + m) (hla : jp_lv a6 a7 to a) (hb : fr ≤ b ∧ b < 272 + m) (hlb : jp_lv a6 a7 to b) (hab : a ≠ b) :
    ∃ rt' dp', jp_fo s fr to (m + 1) (upd a6 (272 + m) (a6 a + a6 b)) (upd (upd a7 a (nI (272 + m))) b (nI (272 + m))) rt' dp' := by
  have hm := jp_fo_m h
  obtain ⟨h1, h2, h3, h4⟩ := h
  obtain ⟨i0, hi0, ea⟩ := h2 a ha.1 ha.2 hla
  obtain ⟨j0, hj0, eb⟩ := h2 b hb.1 hb.2 hlb
  obtain ⟨wa, wa1, wa2, wa3⟩ := (h1 i0 hi0).2.2.2.2.2.2
  obtain ⟨wb, wb1, wb2, wb3⟩ := (h1 j0 hj0).2.2.2.2.2.2
  have sa := (h1 i0 hi0).2.2.2.2.1
  have sb := (h1 j0 hj0).2.2.2.2.1
  rw [← ea] at wa3 sa
  rw [← eb] at wb3 sb
  have hp : 4 * 2 ^ m ≤ 32 := by
    have := jp_p2 hm
    omega
  have hp1 : 2 ^ (m + 1) = 2 * 2 ^ m := by rw [Nat.pow_succ]; omega
  have h7a : upd (upd a7 a (nI (272 + m))) b (nI (272 + m)) a = nI (272 + m) := by rw [pk_un hab, pk_us]
  have h7b : upd (upd a7 a (nI (272 + m))) b (nI (272 + m)) b = nI (272 + m) := pk_us
  have h7o : ∀ k, k ≠ a → k ≠ b → upd (upd a7 a (nI (272 + m))) b (nI (272 + m)) k = a7 k := fun k h1 h2 => by rw [pk_un h2, pk_un h1]
  have hx : ∀ k, 0 ≤ a7 k → upd (upd a7 a (nI (272 + m))) b (nI (272 + m)) k = a7 k := fun k hk => h7o k (fun e => hla.2.2 (by rw [← e]; exact hk)) (fun e => hlb.2.2 (by rw [← e]; exact hk))
  have h6o : ∀ k, k ≠ 272 + m → upd a6 (272 + m) (a6 a + a6 b) k = a6 k := fun k h => pk_un h
  have hdp : ∀ k, jp_us s k → dp k ≤ m ∧ rt k < 272 + m := fun k hk => by
    obtain ⟨i, hi, e⟩ := jp_us_to hk
    rw [e]
    exact ⟨(h1 i hi).2.2.2.2.2.1, (h1 i hi).2.1⟩
  have h2p : ∀ d, d ≤ 3 → 2 * 2 ^ (16 - (d + 1)) = 2 ^ (16 - d) := by decide
  obtain ⟨rt', dp', hy, hn⟩ : ∃ rt' dp' : Nat → Nat, (∀ k, rt k = a ∨ rt k = b → rt' k = 272 + m ∧ dp' k = dp k + 1) ∧ (∀ k, ¬ (rt k = a ∨ rt k = b) → rt' k = rt k ∧ dp' k = dp k) :=
    ⟨fun k => if rt k = a ∨ rt k = b then 272 + m else rt k, fun k => if rt k = a ∨ rt k = b then dp k + 1 else dp k, fun k h => ⟨if_pos h, if_pos h⟩, fun k h => ⟨if_neg h, if_neg h⟩⟩
  have gy : ∀ (rt dp : Nat → Nat) (r k : Nat), jp_us s k → rt k = r → jp_gs s rt dp r k = 2 ^ (16 - dp k) := fun rt dp r k u e => if_pos ⟨u, e⟩
  have gn : ∀ (rt dp : Nat → Nat) (r k : Nat), ¬ rt k = r → jp_gs s rt dp r k = 0 := fun rt dp r k e => if_neg (fun z => e z.2)
  have gu : ∀ (rt dp : Nat → Nat) (r k : Nat), ¬ jp_us s k → jp_gs s rt dp r k = 0 := fun rt dp r k e => if_neg (fun z => e z.1)
  have ty : ∀ (dp : Nat → Nat) (k : Nat), jp_us s k → jp_gt s dp k = 2 ^ (16 - dp k) := fun dp k u => if_pos u
  have tu : ∀ (dp : Nat → Nat) (k : Nat), ¬ jp_us s k → jp_gt s dp k = 0 := fun dp k u => if_neg u
  have hq1 := jp_sm_add (f := fun k => jp_gs s rt dp a k + jp_gs s rt dp b k) (fr := fr) (to - fr) (fun _ _ _ => rfl)
  refine ⟨rt', dp', fun i hi => ?_, fun k k1 k2 k3 => ?_, fun k k1 k2 => ?_, ?_⟩
  · obtain ⟨r1, r2, r3, r4, r5, r6, w, w1, w2, w3⟩ := h1 i hi
    by_cases g : rt (s i) = a ∨ rt (s i) = b
    · rw [(hy _ g).1, (hy _ g).2]
      refine ⟨by omega, by omega, ⟨Or.inr (by omega), ?_, ?_⟩, ?_, ?_, by omega, wa + wb, by omega, by omega, ?_⟩
      · rw [pk_us, wa3, wb3, nI_add]
        exact nI_nle (by omega) (by omega)
      · rw [h7o _ (by omega) (by omega), h3 _ (by omega) (by omega)]
        decide
      · refine jp_up_end (by omega) _ _ _ (jp_up_ext hx _ _ _ r4) ?_
        rcases g with g | g
        · rw [g, h7a]
        · rw [g, h7b]
      · have q2 := jp_sm_mul (c := 2) (f := fun k => jp_gs s rt dp a k + jp_gs s rt dp b k) (g := jp_gs s rt' dp' (272 + m)) (fr := fr) (to - fr) (fun k _ _ => by
          by_cases u : jp_us s k
          · obtain ⟨d1, d2⟩ := hdp k u
            by_cases ga : rt k = a
            · rw [gy rt dp a k u ga, gn rt dp b k (fun z => hab (by rw [← ga, z])), gy rt' dp' _ k u (hy k (Or.inl ga)).1, (hy k (Or.inl ga)).2, h2p _ (by omega), Nat.add_zero]
            · by_cases gb : rt k = b
              · rw [gn rt dp a k ga, gy rt dp b k u gb, gy rt' dp' _ k u (hy k (Or.inr gb)).1, (hy k (Or.inr gb)).2, h2p _ (by omega), Nat.zero_add]
              · have no : ¬ (rt k = a ∨ rt k = b) := fun z => z.elim ga gb
                rw [gn rt dp a k ga, gn rt dp b k gb, gn rt' dp' _ k (by rw [(hn k no).1]; omega)]
          · rw [gu rt dp a k u, gu rt dp b k u, gu rt' dp' _ k u])
        omega
      · rw [pk_us, wa3, wb3, nI_add]
    · rw [(hn _ g).1, (hn _ g).2]
      have na : rt (s i) ≠ a := fun z => g (Or.inl z)
      have nb : rt (s i) ≠ b := fun z => g (Or.inr z)
      refine ⟨r1, by omega, ⟨r3.1, ?_, ?_⟩, jp_up_ext hx _ _ _ r4, ?_, by omega, w, w1, by omega, ?_⟩
      · rw [h6o _ (by omega)]; exact r3.2.1
      · rw [h7o _ na nb]; exact r3.2.2
      · rw [← r5]
        refine jp_sm_congr (to - fr) (fun k _ _ => ?_)
        by_cases gk : rt k = a ∨ rt k = b
        · rw [gn rt' dp' _ k (by rw [(hy k gk).1]; omega), gn rt dp _ k (fun z => g (by rw [← z]; exact gk))]
        · by_cases e : rt k = rt (s i)
          · by_cases u : jp_us s k
            · rw [gy rt' dp' _ k u (by rw [(hn k gk).1]; exact e), gy rt dp _ k u e, (hn k gk).2]
            · rw [gu rt' dp' _ k u, gu rt dp _ k u]
          · rw [gn rt' dp' _ k (by rw [(hn k gk).1]; exact e), gn rt dp _ k e]
      · rw [h6o _ (by omega)]; exact w3
  · by_cases ek : k = 272 + m
    · exact ⟨i0, hi0, by rw [(hy _ (Or.inl ea.symm)).1, ek]⟩
    · have na : k ≠ a := fun z => k3.2.2 (by rw [z, h7a]; exact nI_pos' (by omega))
      have nb : k ≠ b := fun z => k3.2.2 (by rw [z, h7b]; exact nI_pos' (by omega))
      obtain ⟨l1, l2, l3⟩ := k3
      rw [h6o k ek] at l2
      rw [h7o k na nb] at l3
      obtain ⟨i, hi, e⟩ := h2 k k1 (by omega) ⟨l1, l2, l3⟩
      refine ⟨i, hi, ?_⟩
      rw [(hn _ (fun z => z.elim (fun z => na (by rw [e, z])) (fun z => nb (by rw [e, z])))).1]
      exact e
  · rw [h7o k (by omega) (by omega)]
    exact h3 k (by omega) k2
  · have q2 := jp_sm_mul (c := 2) (f := fun k => 2 * jp_gt s dp k) (g := jp_gt s dp) (fr := fr) (to - fr) (fun _ _ _ => rfl)
    have q3 := jp_sm_mul (c := 2) (f := fun k => 2 * jp_gt s dp' k) (g := jp_gt s dp') (fr := fr) (to - fr) (fun _ _ _ => rfl)
    have q4 := jp_sm_add (f := fun k => 2 * jp_gt s dp k) (g := fun k => 2 * jp_gt s dp' k) (e := fun k => jp_gs s rt dp a k + jp_gs s rt dp b k) (fr := fr) (to - fr) (fun k _ _ => by
      by_cases u : jp_us s k
      · obtain ⟨d1, d2⟩ := hdp k u
        have hq := h2p (dp k) (by omega)
        by_cases ga : rt k = a
        · rw [ty dp k u, ty dp' k u, (hy k (Or.inl ga)).2, gy rt dp a k u ga, gn rt dp b k (fun z => hab (by rw [← ga, z]))]
          omega
        · by_cases gb : rt k = b
          · rw [ty dp k u, ty dp' k u, (hy k (Or.inr gb)).2, gn rt dp a k ga, gy rt dp b k u gb]
            omega
          · have no : ¬ (rt k = a ∨ rt k = b) := fun z => z.elim ga gb
            rw [ty dp k u, ty dp' k u, (hn k no).2, gn rt dp a k ga, gn rt dp b k gb]
            omega
      · rw [tu dp k u, tu dp' k u, gu rt dp a k u, gu rt dp b k u])
    omega
end
section
/-! walks: makeLengths -/
/-- what the forest is at the end: all the symbols in use hang under r -/
def jp_end (s : Nat → Nat) (fr to : Nat) (a7 : Nat → Int32) (dp : Nat → Nat) (r : Nat) : Prop :=
  (∀ i, i < 4 → jp_up a7 (dp (s i)) (s i) r ∧ dp (s i) ≤ 3) ∧ a7 r < 0 ∧ jp_sm (jp_gt s dp) fr (to - fr) ≤ 65536
theorem jp_fo_end {s : Nat → Nat} {fr to m : Nat} {a6 a7 : Nat → Int32} {rt dp : Nat → Nat} (h : jp_fo s fr to m a6 a7 rt dp) {a : Nat} (hla : jp_lv a6 a7 to a)
    (h0 : ∀ k, fr ≤ k → k < 272 + m → ¬ jp_lv a6 (upd a7 a (nI (272 + m))) to k) : jp_end s fr to (upd (upd a7 a (nI (272 + m))) a (-1)) dp a := by
  have hm := jp_fo_m h
  obtain ⟨h1, h2, h3, h4⟩ := h
  have hr : ∀ i, i < 4 → rt (s i) = a := fun i hi => by
    obtain ⟨r1, r2, r3, _⟩ := h1 i hi
    by_cases e : rt (s i) = a
    · exact e
    · exact absurd ⟨r3.1, r3.2.1, by rw [pk_un e]; exact r3.2.2⟩ (h0 _ r1 r2)
  refine ⟨fun i hi => ?_, ?_, ?_⟩
  · obtain ⟨r1, r2, r3, r4, r5, r6, _⟩ := h1 i hi
    rw [hr i hi] at r4
    refine ⟨jp_up_ext (fun k hk => ?_) _ _ _ r4, by omega⟩
    have e : k ≠ a := fun e => hla.2.2 (by rw [← e]; exact hk)
    rw [pk_un e, pk_un e]
  · rw [pk_us]
    decide
  · have r5 := (h1 0 (by omega)).2.2.2.2.1
    rw [hr 0 (by omega)] at r5
    rw [← r5]
    refine Nat.le_of_eq (jp_sm_congr (to - fr) (fun k _ _ => ?_))
    unfold jp_gs jp_gt
    by_cases u : jp_us s k
    · obtain ⟨i, hi, e⟩ := jp_us_to u
      rw [if_pos u, if_pos ⟨u, by rw [e]; exact hr i hi⟩]
    · rw [if_neg u, if_neg (fun z => u z.1)]
theorem jq_ml51 {post : St2 → Prop} {s : Nat → Nat} {fr to : Nat} {f1 f2 f3 f4 f5 f6 f7 f8 f9 f10 f11 : Int32} {a1 a2 a3 a4 a5 a8 a9 a10 a11 a12 a13 a14 a15 a16 : Nat → Int32} {a17 : Nat → Int64} {b6 : Nat → Int32} (hft : fr ≤ 272) (hto : to ≤ 272)
    (H : ∀ (a6 a7 : Nat → Int32) (dp : Nat → Nat) (r : Nat), (∀ k, k < 272 → a6 k = b6 k) → jp_end s fr to a7 dp r → ∃ fu, wX_makeLengths_180 post (nI to) f1 f2 f3 f4 f5 f6 f7 f8 f9 f10 f11 fu (nI fr) a1 a2 a3 a4 a5 a6 a7 a8 a9 a10 a11 a12 a13 a14 a15 a16 a17) :
    ∀ (n m : Nat) (a6 a7 : Nat → Int32) (rt dp : Nat → Nat), 5 ≤ n + m → (∀ k, k < 272 → a6 k = b6 k) → jp_fo s fr to m a6 a7 rt dp → wX_makeLengths_51 post (nI fr) (nI to) f1 f2 f3 f4 f5 f6 f7 f8 f9 f10 f11 n (nI (272 + m)) 1 (nI m) a1 a2 a3 a4 a5 a6 a7 a8 a9 a10 a11 a12 a13 a14 a15 a16 a17 := by
  intro n
  induction n with
  | zero =>
    intro m a6 a7 rt dp hn _ h
    exact absurd (jp_fo_m h) (by omega)
  | succ n ih =>
    intro m a6 a7 rt dp hn h6 h
    have hm := jp_fo_m h
    refine pk_le 272 m (fun z => absurd z (by omega)) (fun _ => br_f (by decide) (jq_lightest (by omega) hto (by omega) (fun z => ?_) (fun a a1 a2 a3 => ?_)))
    · obtain ⟨r1, r2, r3, _⟩ := h.1 0 (by omega)
      exact absurd r3 (z _ r1 r2)
    · refine br_f (nI_pos (by omega)) ⟨pk_in a 544 (by omega), ?_⟩
      rw [nI_clamp (by omega)]
      refine nm_e (jq_lightest (by omega) hto (by omega) (fun z => ?_) (fun b b1 b2 b3 => ?_))
      · refine br_f (nI_pos (by omega)) (br_t (by decide) (br_t rfl (br_f (nI_pos (by omega)) ⟨pk_in a 544 (by omega), ?_⟩)))
        rw [nI_clamp (by omega)]
        refine nm_e (nm_r (nI_1 m) ?_)
        obtain ⟨n', rfl⟩ : ∃ n', n = n' + 1 := ⟨n - 1, by omega⟩
        exact pk_le 272 (m + 1) (fun y => absurd y (by omega)) (fun _ => br_t rfl (H _ _ dp a h6 (jp_fo_end h a3 z)))
      · have hab : a ≠ b := fun e => b3.2.2 (by rw [← e, pk_us]; exact nI_pos' (by omega))
        have hlb : jp_lv a6 a7 to b := ⟨b3.1, b3.2.1, by have h := b3.2.2; rw [pk_un (fun e => hab e.symm)] at h; exact h⟩
        obtain ⟨rt', dp', h'⟩ := jp_fo_join h ⟨a1, a2⟩ a3 ⟨b1, b2⟩ hlb hab
        refine br_f (nI_pos (by omega)) (br_f (nI_pos (by omega)) (br_f (by decide) ⟨pk_in b 544 (by omega), ?_⟩))
        rw [nI_clamp (by omega)]
        refine nm_e ⟨pk_in a 544 (by omega), pk_in b 544 (by omega), pk_in (272 + m) 544 (by omega), ?_⟩
        rw [nI_clamp (by omega), nI_clamp (by omega)]
        refine nm_e (nm_r (nI_1 (272 + m)) (nm_r (nI_1 m) (ih (m + 1) _ _ rt' dp' (by omega) (fun k hk => ?_) h')))
        rw [pk_un (by omega)]
        exact h6 k hk
def jp_dl (s dp : Nat → Nat) (k : Nat) : Nat := if jp_us s k then (if dp k = 0 then 1 else dp k) else 0
theorem jp_dl_y {s dp : Nat → Nat} {k : Nat} (u : jp_us s k) : jp_dl s dp k = if dp k = 0 then 1 else dp k := if_pos u
theorem jp_dl_n {s dp : Nat → Nat} {k : Nat} (u : ¬ jp_us s k) : jp_dl s dp k = 0 := if_neg u
theorem jq_ml180 {post : St2 → Prop} {s dp : Nat → Nat} {fr to r : Nat} {f1 f2 f3 f4 f5 f6 f7 f8 f9 f10 f11 : Int32} {a1 a2 a3 a4 a5 a6 a7 a8 a9 a10 a11 a12 a13 a14 a15 a16 : Nat → Int32} {a17 : Nat → Int64} (hft : fr ≤ to) (hto : to ≤ 272) (he : jp_end s fr to a7 dp r) (hw : ∀ i, i < 4 → ¬ a6 (s i) = 0) (hu : ∀ k, fr ≤ k → k < to → ¬ jp_us s k → a6 k = 0)
    (H : ∀ a4' : Nat → Int32, (∀ k, fr ≤ k → k < to → a4' k = nI (jp_dl s dp k)) → (∀ k, k < fr ∨ to ≤ k → a4' k = a4 k) → post (f1, f2, f3, f4, f5, f6, f7, f8, f9, f10, f11, a1, a2, a3, a4', a5, a6, a7, a8, a9, a10, a11, a12, a13, a14, a15, a16, a17)) :
    ∃ fu, wX_makeLengths_180 post (nI to) f1 f2 f3 f4 f5 f6 f7 f8 f9 f10 f11 fu (nI fr) a1 a2 a3 a4 a5 a6 a7 a8 a9 a10 a11 a12 a13 a14 a15 a16 a17 := by
  refine pk_loop (fun n k (t : Nat → Int32) => wX_makeLengths_180 post (nI to) f1 f2 f3 f4 f5 f6 f7 f8 f9 f10 f11 n (nI k) a1 a2 a3 t a5 a6 a7 a8 a9 a10 a11 a12 a13 a14 a15 a16 a17) (fun k t => fr ≤ k ∧ (∀ j, fr ≤ j → j < k → t j = nI (jp_dl s dp j)) ∧ (∀ j, j < fr ∨ k ≤ j → t j = a4 j)) to fr a4 hft ⟨Nat.le_refl _, fun j h1 h2 => absurd h2 (by omega), fun _ _ => rfl⟩ ?_ ?_
  · intro n t h
    exact pk_le to to (fun _ => H t h.2.1 h.2.2) (fun z => absurd z (by omega))
  · intro n k t hk h hw'
    obtain ⟨h0, h1, h2⟩ := h
    have go : ∀ x : Int32, x = nI (jp_dl s dp k) → wX_makeLengths_180 post (nI to) f1 f2 f3 f4 f5 f6 f7 f8 f9 f10 f11 n (nI (k + 1)) a1 a2 a3 (upd t k x) a5 a6 a7 a8 a9 a10 a11 a12 a13 a14 a15 a16 a17 := by
      intro x hx
      refine hw' _ ⟨by omega, fun j j1 j2 => ?_, fun j j1 => ?_⟩
      · by_cases e : j = k
        · rw [e, pk_us]; exact hx
        · rw [pk_un e]; exact h1 j j1 (by omega)
      · rw [pk_un (by omega)]; exact h2 j (by omega)
    refine pk_le to k (fun z => absurd z (by omega)) (fun _ => jq_depthOf (d := dp k) (r := r) (by omega) (fun z => ⟨pk_in k 272 (by omega), ?_⟩) (fun z => ?_))
    · rw [nI_clamp (by omega)]
      refine nm_e (nm_r (nI_1 k) (go 0 ?_))
      by_cases u : jp_us s k
      · obtain ⟨i, hi, e⟩ := jp_us_to u
        exact absurd (by rw [← e]; exact z) (hw i hi)
      · rw [jp_dl_n u]; rfl
    · by_cases u : jp_us s k
      · obtain ⟨i, hi, e⟩ := jp_us_to u
        obtain ⟨u1, u2⟩ := he.1 i hi
        rw [← e] at u1 u2
        refine ⟨u1, he.2.1, by omega, ⟨pk_in k 272 (by omega), ?_⟩⟩
        rw [nI_clamp (by omega)]
        refine nm_e (nm_r (nI_1 k) (go _ ?_))
        rw [jp_dl_y u]
      · exact absurd (hu k h0 hk u) z
theorem jq_makeLengths {post : St2 → Prop} {s : Nat → Nat} {fr to : Nat} {f1 f2 f3 f4 f5 f6 f7 f8 f9 f10 f11 : Int32} {a1 a2 a3 a4 a5 a6 a7 a8 a9 a10 a11 a12 a13 a14 a15 a16 : Nat → Int32} {a17 : Nat → Int64} (hs : ∀ i, i < 4 → fr ≤ s i ∧ s i < to) (hto : to ≤ 272) (hw : ∀ i, i < 4 → ∃ w, 0 < w ∧ w ≤ 4 ∧ a6 (s i) = nI w) (hu : ∀ k, fr ≤ k → k < to → ¬ jp_us s k → a6 k = 0)
    (H : ∀ (a4' a6' a7' : Nat → Int32) (ln : Nat → Nat), (∀ k, fr ≤ k → k < to → a4' k = nI (ln k) ∧ ln k ≤ 3) → (∀ k, k < fr ∨ to ≤ k → a4' k = a4 k) → (∀ i, i < 4 → 1 ≤ ln (s i)) → jp_kraft ln fr (to - fr) → (∀ k, k < 272 → a6' k = a6 k) → post (f1, f2, f3, f4, f5, f6, f7, f8, f9, f10, f11, a1, a2, a3, a4', a5, a6', a7', a8, a9, a10, a11, a12, a13, a14, a15, a16, a17)) :
    wpX_makeLengths post (f1, f2, f3, f4, f5, f6, f7, f8, f9, f10, f11, a1, a2, a3, a4, a5, a6, a7, a8, a9, a10, a11, a12, a13, a14, a15, a16, a17) (nI fr) (nI to) := by
  have hft : fr ≤ to := by have := hs 0 (by omega); omega
  refine pk_loop (fun n k (t : (Nat → Int32) × (Nat → Int32)) => wX_makeLengths_7 post (nI fr) (nI to) 272 f1 f2 f3 f4 f5 f6 f7 f8 f9 f10 f11 n (nI k) a1 a2 a3 a4 a5 t.1 t.2 a8 a9 a10 a11 a12 a13 a14 a15 a16 a17) (fun k t => (∀ j, j < 272 → t.1 j = a6 j) ∧ (∀ j, j < k → t.2 j = -1)) 544 0 (a6, a7) (by omega) ⟨fun _ _ => rfl, fun j h => absurd h (by omega)⟩ ?_ ?_
  · intro n t h
    obtain ⟨h1, h2⟩ := h
    refine pk_le 544 544 (fun _ => ⟨5, ?_⟩) (fun z => absurd z (by omega))
    refine jq_ml51 (s := s) (b6 := a6) (by omega) hto (fun a6' a7' dp r h6 he => ?_) 5 0 t.1 t.2 (fun k => k) (fun _ => 0) (by omega) h1 (jp_fo_0 hs hto (fun i hi => ?_) (fun k k1 k2 k3 => ?_) h2)
    · refine jq_ml180 hft hto he (fun i hi => ?_) (fun k k1 k2 k3 => ?_) (fun a4' e1 e2 => H a4' a6' a7' (jp_dl s dp) (fun k k1 k2 => ⟨e1 k k1 k2, ?_⟩) e2 (fun i hi => ?_) ?_ h6)
      · obtain ⟨w, w1, w2, w3⟩ := hw i hi
        have := hs i hi
        rw [h6 _ (by omega), w3]
        exact nI_ne0 w1 (by omega)
      · rw [h6 k (by omega)]
        exact hu k k1 k2 k3
      · by_cases u : jp_us s k
        · obtain ⟨i, hi, e⟩ := jp_us_to u
          have := (he.1 i hi).2
          rw [← e] at this
          rw [jp_dl_y u]
          split <;> omega
        · rw [jp_dl_n u]; omega
      · rw [jp_dl_y (jp_us_of hi)]
        split <;> omega
      · refine Nat.le_trans (jp_sm_le (to - fr) (fun k _ _ => ?_)) he.2.2
        unfold jp_gt
        by_cases u : jp_us s k
        · rw [jp_dl_y u, if_pos u]
          by_cases d0 : dp k = 0
          · rw [if_pos d0, d0]; decide
          · rw [if_neg d0, if_neg d0]; exact Nat.le_refl _
        · rw [jp_dl_n u, if_neg u, if_pos rfl]; exact Nat.zero_le _
    · obtain ⟨w, w1, w2, w3⟩ := hw i hi
      have := hs i hi
      exact ⟨w, w1, w2, by rw [h1 _ (by omega), w3]⟩
    · rw [h1 k (by omega)]
      exact hu k k1 k2 k3
  · intro n k t hk h hw'
    obtain ⟨h1, h2⟩ := h
    have g2 : ∀ j, j < k + 1 → upd t.2 k (-1) j = -1 := fun j hj => by
      by_cases e : j = k
      · rw [e, pk_us]
      · rw [pk_un e]; exact h2 j (by omega)
    refine pk_le 544 k (fun z => absurd z (by omega)) (fun _ => ⟨pk_in k 544 hk, ?_⟩)
    rw [nI_clamp (by omega)]
    refine nm_e (pk_lt k 272 (fun z => nm_r (nI_1 k) (hw' (t.1, upd t.2 k (-1)) ⟨h1, g2⟩)) (fun z => ⟨pk_in k 544 hk, ?_⟩))
    refine nm_e (nm_r (nI_1 k) (hw' (upd t.1 k 0, upd t.2 k (-1)) ⟨fun j hj => ?_, g2⟩))
    show upd t.1 k 0 j = a6 j
    rw [pk_un (by omega)]
    exact h1 j hj
/-! walks: makeCodes -/
def jp_mcI (ln : Nat → Nat) (fr N : Nat) (a8 a9 b8 b9 : Nat → Int32) (ok : Nat → Prop) : Prop :=
  (∀ j, j < N → 1 ≤ ln (fr + j) → ok j → b8 (fr + j) = nI (jp_fc ln fr N (ln (fr + j)) + jp_ct ln fr (ln (fr + j)) j) ∧ b9 (jp_pl ln fr N (ln (fr + j)) + jp_ct ln fr (ln (fr + j)) j) = nI (fr + j)) ∧
  (∀ k, k < fr ∨ fr + N ≤ k → b8 k = a8 k) ∧ (∀ k, k < fr → b9 k = a9 k)
theorem jq_mc47 {post : St2 → Prop} {fr N tb n : Nat} {ln : Nat → Nat} {J9 : Int32 → Int32 → Int32 → (Nat → Int32) → (Nat → Int32) → (Nat → Int32) → (Nat → Int32) → (Nat → Int32) → (Nat → Int32) → (Nat → Int32) → (Nat → Int32) → (Nat → Int32) → (Nat → Int32) → (Nat → Int32) → (Nat → Int32) → (Nat → Int32) → (Nat → Int32) → (Nat → Int32) → (Nat → Int32) → (Nat → Int64) → Prop} {f1 f2 f3 f4 f5 f6 f7 f8 f9 f10 f11 : Int32} {a1 a2 a3 a4 a5 a6 a7 a8 a9 a10 a11 a12 a13 a14 a15 a16 : Nat → Int32} {a17 : Nat → Int64} {b8 b9 : Nat → Int32} (htb : tb ≤ 1) (hN : fr + N ≤ 272) (hk : jp_kraft ln fr N) (hn : 1 ≤ n) (hn2 : n ≤ 16) (hl : ∀ k, fr ≤ k → k < fr + N → a4 k = nI (ln k) ∧ ln k ≤ 16)
    (h11 : a11 (tb * 17 + n) = nI (jp_pl ln fr N n)) (h0 : jp_mcI ln fr N a8 a9 b8 b9 (fun j => ln (fr + j) < n))
    (H : ∀ c8 c9 : Nat → Int32, jp_mcI ln fr N a8 a9 c8 c9 (fun j => ln (fr + j) < n + 1) → J9 (nI (jp_fc ln fr N (n + 1))) (nI (jp_pl ln fr N (n + 1))) (nI (n + 1)) a1 a2 a3 a4 a5 a6 a7 c8 c9 a10 a11 (upd a12 (tb * 17 + n) (nI (jp_ct ln fr n N))) a13 a14 a15 a16 a17) :
    ∃ fu, wX_makeCodes_47 post J9 (nI fr) (nI (fr + N)) (nI tb) (nI n) f1 f2 f3 f4 f5 f6 f7 f8 f9 f10 f11 fu (nI (jp_fc ln fr N n)) (nI (jp_pl ln fr N n)) (nI fr) a1 a2 a3 a4 a5 a6 a7 b8 b9 a10 a11 a12 a13 a14 a15 a16 a17 := by
  have hix : nI tb * 17 + nI n = nI (tb * 17 + n) := jp_ix tb 17 n
  have hfit := jp_fc_fit hk hn hn2
  have h16 : 2 ^ n ≤ 65536 := jp_p2 hn2
  refine pk_loop (fun fu j (t : (Nat → Int32) × (Nat → Int32)) => wX_makeCodes_47 post J9 (nI fr) (nI (fr + N)) (nI tb) (nI n) f1 f2 f3 f4 f5 f6 f7 f8 f9 f10 f11 fu (nI (jp_fc ln fr N n + jp_ct ln fr n j)) (nI (jp_pl ln fr N n + jp_ct ln fr n j)) (nI (fr + j)) a1 a2 a3 a4 a5 a6 a7 t.1 t.2 a10 a11 a12 a13 a14 a15 a16 a17) (fun j t => jp_mcI ln fr N a8 a9 t.1 t.2 (fun i => ln (fr + i) < n ∨ (ln (fr + i) = n ∧ i < j))) N 0 (b8, b9) (by omega) ?_ ?_ ?_
  · exact ⟨fun j j1 j2 j3 => h0.1 j j1 j2 (by omega), h0.2⟩
  · intro fu t h
    refine pk_le (fr + N) (fr + N) (fun _ => ⟨pk_in (tb * 17 + n) 34 (by omega) hix, pk_in (tb * 17 + n) 34 (by omega) hix, ?_⟩) (fun z => absurd z (by omega))
    rw [hix, nI_clamp (by omega), h11, pk_sub (by omega), Nat.add_sub_cancel_left]
    refine nm_e (nm_r (e' := nI (jp_fc ln fr N (n + 1))) ?_ (nm_r (nI_1 n) ?_))
    · rw [pk_shlN _ 1 (by decide) (by omega), jp_fc_s ln fr N hn]
      exact congrArg nI (by omega)
    · rw [← jp_pl_s ln fr N hn]
      exact H t.1 t.2 ⟨fun j j1 j2 j3 => h.1 j j1 j2 (by omega), h.2⟩
  · intro fu j t hj h hw
    obtain ⟨g1, g2, g3⟩ := h
    obtain ⟨e4, l16⟩ := hl (fr + j) (by omega) (by omega)
    have hct := jp_ct_s ln fr n j
    have hple := jp_pl_ge ln fr N n
    refine pk_le (fr + N) (fr + j) (fun z => absurd z (by omega)) (fun _ => ⟨pk_in (fr + j) 272 (by omega), ?_⟩)
    rw [nI_clamp (by omega), e4]
    refine pk_eq (ln (fr + j)) n (fun z => ?_) (fun z => ?_)
    · have hpl := jp_place ln fr N hn hj z
      rw [if_pos z] at hct
      refine ⟨pk_in (fr + j) 272 (by omega), nm_e ⟨pk_in (jp_pl ln fr N n + jp_ct ln fr n j) 272 (by omega), ?_⟩⟩
      rw [nI_clamp (by omega)]
      refine nm_e (nm_r (nI_1 _) (nm_r (nI_1 _) (nm_r (nI_1 (fr + j)) ?_)))
      rw [show jp_fc ln fr N n + jp_ct ln fr n j + 1 = jp_fc ln fr N n + jp_ct ln fr n (j + 1) by omega, show jp_pl ln fr N n + jp_ct ln fr n j + 1 = jp_pl ln fr N n + jp_ct ln fr n (j + 1) by omega]
      refine hw (upd t.1 (fr + j) (nI (jp_fc ln fr N n + jp_ct ln fr n j)), upd t.2 (jp_pl ln fr N n + jp_ct ln fr n j) (nI (fr + j))) ⟨fun i i1 i2 i3 => ?_, fun k k1 => ?_, fun k k1 => ?_⟩
      · (try dsimp only)
        by_cases e : i = j
        · rw [e, z, pk_us, pk_us]; exact ⟨rfl, rfl⟩
        · have i4 : ln (fr + i) < n ∨ (ln (fr + i) = n ∧ i < j) := by omega
          have hne : jp_pl ln fr N (ln (fr + i)) + jp_ct ln fr (ln (fr + i)) i ≠ jp_pl ln fr N n + jp_ct ln fr n j := by
            rcases i4 with i4 | ⟨i4, i5⟩
            · have q1 := jp_ct_lt ln fr (n := ln (fr + i)) i1 rfl
              have q2 := jp_pl_s ln fr N i2
              have q3 := jp_pl_mono ln fr N (show ln (fr + i) + 1 ≤ n by omega)
              omega
            · have q1 := jp_ct_lt ln fr i5 i4
              rw [i4]
              omega
          rw [pk_un (by omega), pk_un hne]
          exact g1 i i1 i2 i4
      · show upd t.1 (fr + j) _ k = a8 k
        rw [pk_un (by omega)]
        exact g2 k k1
      · show upd t.2 _ _ k = a9 k
        rw [pk_un (by omega)]
        exact g3 k k1
    · have hct' : jp_ct ln fr n (j + 1) = jp_ct ln fr n j := by rw [hct, if_neg z]; rfl
      refine nm_r (nI_1 (fr + j)) ?_
      rw [← hct']
      exact hw t ⟨fun i i1 i2 i3 => g1 i i1 i2 (by
        rcases i3 with i3 | ⟨i3, i4⟩
        · exact Or.inl i3
        · by_cases e : i = j
          · exact absurd (by rw [← e]; exact i3) z
          · exact Or.inr ⟨i3, by omega⟩), g2, g3⟩
theorem jq_makeCodes {post : St2 → Prop} {fr N tb : Nat} {ln : Nat → Nat} {f1 f2 f3 f4 f5 f6 f7 f8 f9 f10 f11 : Int32} {a1 a2 a3 a4 a5 a6 a7 a8 a9 a10 a11 a12 a13 a14 a15 a16 : Nat → Int32} {a17 : Nat → Int64} (htb : tb ≤ 1) (hN : fr + N ≤ 272) (hk : jp_kraft ln fr N) (hl : ∀ k, fr ≤ k → k < fr + N → a4 k = nI (ln k) ∧ ln k ≤ 16)
    (H : ∀ b8 b9 b10 b11 b12 : Nat → Int32, (∀ j, j < N → 1 ≤ ln (fr + j) → ∃ c, b8 (fr + j) = nI c ∧ jp_dc (fr + N) b9 b10 b11 b12 tb (fr + j) c (ln (fr + j))) → (∀ k, k < fr ∨ fr + N ≤ k → b8 k = a8 k) → (∀ k, k < fr → b9 k = a9 k) → (∀ k, k ≤ tb * 17 → b10 k = a10 k ∧ b11 k = a11 k ∧ b12 k = a12 k) → post (f1, f2, f3, f4, f5, f6, f7, f8, f9, f10, f11, a1, a2, a3, a4, a5, a6, a7, b8, b9, b10, b11, b12, a13, a14, a15, a16, a17)) :
    wpX_makeCodes post (f1, f2, f3, f4, f5, f6, f7, f8, f9, f10, f11, a1, a2, a3, a4, a5, a6, a7, a8, a9, a10, a11, a12, a13, a14, a15, a16, a17) (nI fr) (nI (fr + N)) (nI tb) := by
  refine Exists.elim (pk_loop (fun fu n (t : (Nat → Int32) × (Nat → Int32) × (Nat → Int32) × (Nat → Int32) × (Nat → Int32)) => wX_makeCodes_9 post (nI fr) (nI (fr + N)) (nI tb) f1 f2 f3 f4 f5 f6 f7 f8 f9 f10 f11 fu (nI (jp_fc ln fr N n)) (nI (jp_pl ln fr N n)) (nI n) a1 a2 a3 a4 a5 a6 a7 t.1 t.2.1 t.2.2.1 t.2.2.2.1 t.2.2.2.2 a13 a14 a15 a16 a17)
    (fun n t => 1 ≤ n ∧ jp_mcI ln fr N a8 a9 t.1 t.2.1 (fun j => ln (fr + j) < n) ∧ (∀ i, 1 ≤ i → i < n → t.2.2.1 (tb * 17 + i) = nI (jp_fc ln fr N i) ∧ t.2.2.2.1 (tb * 17 + i) = nI (jp_pl ln fr N i) ∧ t.2.2.2.2 (tb * 17 + i) = nI (jp_ct ln fr i N)) ∧ (∀ k, k ≤ tb * 17 → t.2.2.1 k = a10 k ∧ t.2.2.2.1 k = a11 k ∧ t.2.2.2.2 k = a12 k)) 17 1 (a8, a9, a10, a11, a12) (by omega) ?_ ?_ ?_) (fun fu h => ?_)
  rotate_left 3
  · refine ⟨fu, ?_⟩
    (try dsimp only at h)
    rw [jp_fc_1, jp_pl_1] at h
    exact h
  · exact ⟨by omega, ⟨fun j _ j2 j3 => absurd j3 (by omega), fun _ _ => rfl, fun _ _ => rfl⟩, fun i i1 i2 => absurd i2 (by omega), fun _ _ => ⟨rfl, rfl, rfl⟩⟩
  · intro fu t h
    obtain ⟨_, g1, g2, g3⟩ := h
    refine pk_lt 16 17 (fun _ => H _ _ _ _ _ (fun j j1 j2 => ?_) g1.2.1 g1.2.2 g3) (fun z => absurd z (by omega))
    have l16 := (hl (fr + j) (by omega) (by omega)).2
    exact ⟨_, (g1.1 j j1 j2 (by omega)).1, jp_dc_of hk hN (fun n n1 n2 => g2 n n1 (by omega)) (fun i i1 i2 i3 => (g1.1 i i1 i2 (by omega)).2) j1 j2 l16⟩
  · intro fu n t hn h hw
    obtain ⟨n1, g1, g2, g3⟩ := h
    have hix : nI tb * 17 + nI n = nI (tb * 17 + n) := jp_ix tb 17 n
    refine pk_lt 16 n (fun z => absurd z (by omega)) (fun _ => ⟨pk_in (tb * 17 + n) 34 (by omega) hix, ?_⟩)
    rw [hix, nI_clamp (by omega)]
    refine nm_e ⟨pk_in (tb * 17 + n) 34 (by omega), nm_e (jq_mc47 (a8 := a8) (a9 := a9) htb hN hk n1 (by omega) hl pk_us g1 (fun c8 c9 hc => ?_))⟩
    refine hw (c8, c9, upd t.2.2.1 (tb * 17 + n) (nI (jp_fc ln fr N n)), upd t.2.2.2.1 (tb * 17 + n) (nI (jp_pl ln fr N n)), upd t.2.2.2.2 (tb * 17 + n) (nI (jp_ct ln fr n N))) ⟨by omega, hc, fun i i1 i2 => ?_, fun k k1 => ?_⟩
    · (try dsimp only)
      by_cases e : i = n
      · rw [e, pk_us, pk_us, pk_us]; exact ⟨rfl, rfl, rfl⟩
      · rw [pk_un (by omega), pk_un (by omega), pk_un (by omega)]
        exact g2 i i1 (by omega)
    · (try dsimp only)
      rw [pk_un (by omega), pk_un (by omega), pk_un (by omega)]
      exact g3 k k1
end
section
/-! walks: waves, the transform of a flat block -/
def jp_qt : Nat → Int32
  | 0 => 64
  | 1 => 63
  | 2 => 59
  | 3 => 53
  | 4 => 45
  | 5 => 36
  | 6 => 24
  | 7 => 12
  | _ => 0
def jp_wt (t : Nat) : Int32 := if 8 < t then (if 16 < t then (if 24 < t then jp_qt (32 - t) else -jp_qt (t - 16)) else -jp_qt (16 - t)) else jp_qt t
def jp_wv (u i : Nat) : Int32 := jp_wt ((2 * i + 1) * u % 32)
def jp_W (u : Nat) : Nat → Int32
  | 0 => 0
  | i + 1 => jp_W u i + jp_wv u i
theorem jp_W4 : ∀ u, u < 8 → u % 2 = 0 → jp_W u 4 = if u = 0 then 256 else 0 := by decide +kernel
theorem jp_wv0 : ∀ i, i < 8 → jp_wv 0 i = 64 := by decide +kernel
def jp_co (b : Nat) : Nat := b / 2 * 128 + b % 2 * 8
theorem jp_corner : ∀ b, b < 4 → ((nI b >>> ((1 : Int32) &&& 31)) * 8) * 16 + (nI b &&& 1) * 8 = nI (jp_co b) := by decide +kernel
theorem jp_co_le : ∀ b, b < 4 → jp_co b ≤ 136 := by decide
theorem jp_ix2 (a b c d : Nat) : nI a + nI b * nI c + nI d = nI (a + b * c + d) := by rw [pk_mul, nI_add, nI_add]
theorem jp_ix3 (a b c d e : Nat) : nI a * nI b + nI c * nI d + nI e = nI (a * b + c * d + e) := by rw [pk_mul, pk_mul, nI_add, nI_add]
theorem jp_ix1 (a b c : Nat) : nI a + nI b * nI c = nI (a + b * c) := by rw [pk_mul, nI_add]
theorem jp_c8 {v u : Nat} (h : v * 8 + u < 2 ^ 31) : (nI v * 8 + nI u).toNatClampNeg = v * 8 + u := pk_cl _ (jp_ix v 8 u) h
theorem jp_c16 {c j i : Nat} (h : c + j * 16 + i < 2 ^ 31) : (nI c + nI j * 16 + nI i).toNatClampNeg = c + j * 16 + i := pk_cl _ (jp_ix2 c j 16 i) h
theorem jp_c3 {b v u : Nat} (h : b * 64 + v * 8 + u < 2 ^ 31) : (nI b * 64 + nI v * 8 + nI u).toNatClampNeg = b * 64 + v * 8 + u := pk_cl _ (jp_ix3 b 64 v 8 u) h
theorem jp_c64 {b o : Nat} (h : b * 64 + o < 2 ^ 31) : (nI b * 64 + nI o).toNatClampNeg = b * 64 + o := pk_cl _ (jp_ix b 64 o) h
theorem jq_wave {post : Int32 → Prop} {f1 f2 f3 f4 f5 f6 f7 f8 f9 f10 f11 : Int32} {a1 a2 a3 a4 a5 a6 a7 a8 a9 a10 a11 a12 a13 a14 a15 a16 : Nat → Int32} {a17 : Nat → Int64} {u i : Nat} (hq : ∀ j, j < 9 → a2 j = jp_qt j) (hu : u < 8) (hi : i < 8) (H : post (jp_wv u i)) : wpX_wave post (f1, f2, f3, f4, f5, f6, f7, f8, f9, f10, f11, a1, a2, a3, a4, a5, a6, a7, a8, a9, a10, a11, a12, a13, a14, a15, a16, a17) (nI u) (nI i) := by
  have hb : (2 * i + 1) * u ≤ 15 * 7 := Nat.mul_le_mul (by omega) (by omega)
  refine nm_r (e' := nI ((2 * i + 1) * u % 32)) ?_ ?_
  · rw [show (2 : Int32) = nI 2 from rfl, pk_mul, nI_1, pk_mul, pk_andN (by omega) 5 (by decide)]
  · unfold jp_wv jp_wt at H
    have ht : (2 * i + 1) * u % 32 < 32 := Nat.mod_lt _ (by omega)
    generalize (2 * i + 1) * u % 32 = t at *
    have c1 : t ≤ 32 → (32 - nI t).toNatClampNeg = 32 - t := fun h => pk_cl _ (pk_sub (a := 32) (b := t) h)
    have c2 : 16 ≤ t → (nI t - 16).toNatClampNeg = t - 16 := fun h => pk_cl _ (pk_sub (a := t) (b := 16) h)
    have c3 : t ≤ 16 → (16 - nI t).toNatClampNeg = 16 - t := fun h => pk_cl _ (pk_sub (a := 16) (b := t) h)
    refine pk_lt 8 t (fun z => pk_lt 16 t (fun z2 => pk_lt 24 t (fun z3 => ⟨pk_in (32 - t) 9 (by omega) (pk_sub (a := 32) (b := t) (by omega)), ?_⟩) (fun z3 => ⟨pk_in (t - 16) 9 (by omega) (pk_sub (a := t) (b := 16) (by omega)), ?_⟩)) (fun z2 => ⟨pk_in (16 - t) 9 (by omega) (pk_sub (a := 16) (b := t) (by omega)), ?_⟩)) (fun z => ⟨pk_in t 9 (by omega), ?_⟩)
    · rw [c1 (by omega), hq _ (by omega)]
      rw [if_pos z, if_pos z2, if_pos z3] at H
      exact H
    · rw [c2 (by omega), hq _ (by omega)]
      rw [if_pos z, if_pos z2, if_neg (by omega)] at H
      exact H
    · rw [c3 (by omega), hq _ (by omega)]
      rw [if_pos z, if_neg (by omega)] at H
      exact H
    · rw [nI_clamp (by omega), hq _ (by omega)]
      rw [if_neg (by omega)] at H
      exact H
theorem jq_folded {post : Int32 → Prop} {f1 f2 f3 f4 f5 f6 f7 f8 f9 f10 f11 : Int32} {a1 a2 a3 a4 a5 a6 a7 a8 a9 a10 a11 a12 a13 a14 a15 a16 : Nat → Int32} {a17 : Nat → Int64} {fr st u : Nat} {c : Int32} (hq : ∀ j, j < 9 → a2 j = jp_qt j) (hu : u < 8) (hf : fr + 7 * st < 64) (hc : ∀ i, i < 8 → a15 (fr + i * st) = c) (H : post (if u = 0 then c * 512 else 0)) : wpX_folded post (f1, f2, f3, f4, f5, f6, f7, f8, f9, f10, f11, a1, a2, a3, a4, a5, a6, a7, a8, a9, a10, a11, a12, a13, a14, a15, a16, a17) (nI fr) (nI st) (nI u) := by
  refine pk_loop (fun n i (s : Int32) => wX_folded_6 post (nI fr) (nI st) (nI u) f1 f2 f3 f4 f5 f6 f7 f8 f9 f10 f11 a1 a2 a3 a4 a5 a6 a7 a8 a9 a10 a11 a12 a13 a14 a15 a16 a17 n s (nI i)) (fun i s => s = (if u % 2 = 0 then c + c else c - c) * jp_W u i) 4 0 0 (by omega) (Int32.mul_zero).symm ?_ ?_
  · intro n s h
    refine pk_le 4 4 (fun _ => ?_) (fun z => absurd z (by omega))
    have e : s = if u = 0 then c * 512 else 0 := by
      rw [h]
      by_cases e : u % 2 = 0
      · rw [if_pos e, jp_W4 u hu e]
        by_cases e0 : u = 0
        · rw [if_pos e0, if_pos e0]
          grind
        · rw [if_neg e0, if_neg e0, Int32.mul_zero]
      · rw [if_neg e, if_neg (by omega), Int32.sub_self, Int32.zero_mul]
    rw [e]
    exact H
  · intro n i s hi h hw
    have hm1 : i * st ≤ 7 * st := Nat.mul_le_mul_right st (by omega)
    have hm2 : (7 - i) * st ≤ 7 * st := Nat.mul_le_mul_right st (by omega)
    have e2 : nI fr + (7 - nI i) * nI st = nI (fr + (7 - i) * st) := by
      rw [show (7 : Int32) - nI i = nI (7 - i) from pk_sub (a := 7) (b := i) (by omega), pk_mul, nI_add]
    refine pk_le 4 i (fun z => absurd z (by omega)) (fun _ => ⟨pk_in (fr + i * st) 64 (by omega) (jp_ix1 fr i st), ?_⟩)
    rw [pk_cl (fr + i * st) (jp_ix1 fr i st), hc i (by omega)]
    refine nm_e ⟨pk_in (fr + (7 - i) * st) 64 (by omega) e2, ?_⟩
    rw [pk_cl (fr + (7 - i) * st) e2, hc (7 - i) (by omega)]
    refine nm_e (pk_eq (u % 2) 0 (fun z => jq_wave hq hu (by omega) (nm_e (nm_r (nI_1 i) (hw _ ?_)))) (fun z => jq_wave hq hu (by omega) (nm_e (nm_r (nI_1 i) (hw _ ?_)))) (jp_and1 (by omega)))
    · rw [h, if_pos z]
      show _ = (c + c) * (jp_W u i + jp_wv u i)
      rw [Int32.mul_add]
    · rw [h, if_neg z]
      show _ = (c - c) * (jp_W u i + jp_wv u i)
      rw [Int32.mul_add]
theorem jq_tr4 {post : St2 → Prop} {f1 f2 f3 f4 f5 f6 f7 f8 f9 f10 f11 : Int32} {a1 a2 a3 a4 a5 a6 a7 a8 a9 a10 a11 a12 a13 a14 a15 a16 : Nat → Int32} {a17 : Nat → Int64} {d : Int32} (hq : ∀ j, j < 9 → a2 j = jp_qt j) (hc : ∀ k, k < 64 → a15 k = if k % 8 = 0 then d else 0) (H : ∀ t : Nat → Int32, (∀ k, k < 64 → t k = if k = 0 then d * 512 else 0) → post (f1, f2, f3, f4, f5, f6, f7, f8, f9, f10, f11, a1, a2, a3, a4, a5, a6, a7, a8, a9, a10, a11, a12, a13, a14, a15, t, a17)) :
    ∃ fu, wX_transform_147 post f1 f2 f3 f4 f5 f6 f7 f8 f9 f10 f11 fu 0 a1 a2 a3 a4 a5 a6 a7 a8 a9 a10 a11 a12 a13 a14 a15 a16 a17 := by
  refine pk_loop (fun n u (t : Nat → Int32) => wX_transform_147 post f1 f2 f3 f4 f5 f6 f7 f8 f9 f10 f11 n (nI u) a1 a2 a3 a4 a5 a6 a7 a8 a9 a10 a11 a12 a13 a14 a15 t a17) (fun u t => ∀ k, k < 64 → k % 8 < u → t k = if k = 0 then d * 512 else 0) 8 0 a16 (by omega) (fun k _ h => absurd h (by omega)) ?_ ?_
  · intro n t h
    exact pk_le 8 8 (fun _ => H t (fun k hk => h k hk (by omega))) (fun z => absurd z (by omega))
  · intro n u t hu h hw
    refine pk_le 8 u (fun z => absurd z (by omega)) (fun _ => ?_)
    refine pk_loop (fun n' v (t : Nat → Int32) => wX_transform_156 post (wX_transform_147 post f1 f2 f3 f4 f5 f6 f7 f8 f9 f10 f11 n) (nI u) f1 f2 f3 f4 f5 f6 f7 f8 f9 f10 f11 n' (nI v) a1 a2 a3 a4 a5 a6 a7 a8 a9 a10 a11 a12 a13 a14 a15 t a17) (fun v t => ∀ k, k < 64 → (k % 8 < u ∨ (k % 8 = u ∧ k / 8 < v)) → t k = if k = 0 then d * 512 else 0) 8 0 t (by omega) (fun k hk h' => h k hk (by omega)) ?_ ?_
    · intro n' t' h'
      exact pk_le 8 8 (fun _ => nm_r (nI_1 u) (hw t' (fun k hk hk2 => h' k hk (by omega)))) (fun z => absurd z (by omega))
    · intro n' v t' hv h' hw'
      refine pk_le 8 v (fun z => absurd z (by omega)) (fun _ => jq_folded (st := 8) (c := if u = 0 then d else 0) hq hv (by omega) (fun i hi => ?_) ⟨pk_in (v * 8 + u) 64 (by omega) (jp_ix v 8 u), ?_⟩)
      · rw [hc _ (by omega)]
        by_cases e : u = 0
        · rw [if_pos e, if_pos (by omega)]
        · rw [if_neg e, if_neg (by omega)]
      · rw [jp_c8 (by omega)]
        refine nm_e (nm_r (nI_1 v) (hw' _ (fun k hk hk2 => ?_)))
        by_cases e : k = v * 8 + u
        · rw [e, pk_us]
          by_cases e1 : v = 0
          · by_cases e2 : u = 0
            · rw [if_pos e1, if_pos e2, if_pos (by omega)]
            · rw [if_pos e1, if_neg e2, if_neg (by omega), Int32.zero_mul]
          · rw [if_neg e1, if_neg (by omega)]
        · rw [pk_un e]
          exact h' k hk (by omega)
theorem jq_tr3 {post : St2 → Prop} {f1 f2 f3 f4 f5 f6 f7 f8 f9 f10 f11 : Int32} {a1 a2 a3 a4 a5 a6 a7 a8 a9 a10 a11 a12 a13 a14 a15 a16 : Nat → Int32} {a17 : Nat → Int64} (H : ∀ t : Nat → Int32, (∀ k, k < 64 → t k = a16 k) → ∃ fu, wX_transform_147 post f1 f2 f3 f4 f5 f6 f7 f8 f9 f10 f11 fu 0 a1 a2 a3 a4 a5 a6 a7 a8 a9 a10 a11 a12 a13 a14 t a16 a17) : ∃ fu, wX_transform_121 post f1 f2 f3 f4 f5 f6 f7 f8 f9 f10 f11 fu 0 a1 a2 a3 a4 a5 a6 a7 a8 a9 a10 a11 a12 a13 a14 a15 a16 a17 := by
  refine pk_loop (fun n k (t : Nat → Int32) => wX_transform_121 post f1 f2 f3 f4 f5 f6 f7 f8 f9 f10 f11 n (nI k) a1 a2 a3 a4 a5 a6 a7 a8 a9 a10 a11 a12 a13 a14 t a16 a17) (fun k t => ∀ j, j < k → t j = a16 j) 64 0 a15 (by omega) (fun j h => absurd h (by omega)) ?_ ?_
  · intro n t h
    exact pk_le 64 64 (fun _ => H t h) (fun z => absurd z (by omega))
  · intro n k t hk h hw
    refine pk_le 64 k (fun z => absurd z (by omega)) (fun _ => ⟨pk_in k 64 hk, pk_in k 64 hk, ?_⟩)
    rw [nI_clamp (by omega)]
    refine nm_e (nm_r (nI_1 k) (hw _ (fun j hj => ?_)))
    by_cases e : j = k
    · rw [e, pk_us]
    · rw [pk_un e]; exact h j (by omega)
theorem jq_tr2 {post : St2 → Prop} {f1 f2 f3 f4 f5 f6 f7 f8 f9 f10 f11 : Int32} {a1 a2 a3 a4 a5 a6 a7 a8 a9 a10 a11 a12 a13 a14 a15 a16 : Nat → Int32} {a17 : Nat → Int64} {c : Int32} (hq : ∀ j, j < 9 → a2 j = jp_qt j) (hc : ∀ k, k < 64 → a15 k = c) (H : ∀ t : Nat → Int32, (∀ k, k < 64 → t k = if k % 8 = 0 then c * 512 else 0) → ∃ fu, wX_transform_121 post f1 f2 f3 f4 f5 f6 f7 f8 f9 f10 f11 fu 0 a1 a2 a3 a4 a5 a6 a7 a8 a9 a10 a11 a12 a13 a14 a15 t a17) :
    ∃ fu, wX_transform_68 post f1 f2 f3 f4 f5 f6 f7 f8 f9 f10 f11 fu 0 a1 a2 a3 a4 a5 a6 a7 a8 a9 a10 a11 a12 a13 a14 a15 a16 a17 := by
  refine pk_loop (fun n j (t : Nat → Int32) => wX_transform_68 post f1 f2 f3 f4 f5 f6 f7 f8 f9 f10 f11 n (nI j) a1 a2 a3 a4 a5 a6 a7 a8 a9 a10 a11 a12 a13 a14 a15 t a17) (fun j t => ∀ k, k < 8 * j → t k = if k % 8 = 0 then c * 512 else 0) 8 0 a16 (by omega) (fun k h => absurd h (by omega)) ?_ ?_
  · intro n t h
    exact pk_le 8 8 (fun _ => H t h) (fun z => absurd z (by omega))
  · intro n j t hj h hw
    refine pk_le 8 j (fun z => absurd z (by omega)) (fun _ => ?_)
    refine pk_loop (fun n' u (t : Nat → Int32) => wX_transform_77 post (wX_transform_68 post f1 f2 f3 f4 f5 f6 f7 f8 f9 f10 f11 n) (nI j) f1 f2 f3 f4 f5 f6 f7 f8 f9 f10 f11 n' (nI u) a1 a2 a3 a4 a5 a6 a7 a8 a9 a10 a11 a12 a13 a14 a15 t a17) (fun u t => ∀ k, k < 8 * j + u → t k = if k % 8 = 0 then c * 512 else 0) 8 0 t (by omega) h ?_ ?_
    · intro n' t' h'
      exact pk_le 8 8 (fun _ => nm_r (nI_1 j) (hw t' (fun k hk => h' k (by omega)))) (fun z => absurd z (by omega))
    · intro n' u t' hu h' hw'
      have H0 : ∀ p : Int32 → Prop, p (if u = 0 then c * 512 else 0) → wpX_folded p (f1, f2, f3, f4, f5, f6, f7, f8, f9, f10, f11, a1, a2, a3, a4, a5, a6, a7, a8, a9, a10, a11, a12, a13, a14, a15, t', a17) (nI j * 8) 1 (nI u) := fun p hp => by
        rw [show nI j * 8 = nI (j * 8) from pk_mul j 8]
        exact jq_folded (c := c) (st := 1) hq hu (by omega) (fun i hi => hc _ (by omega)) hp
      refine pk_le 8 u (fun z => absurd z (by omega)) (fun _ => H0 _ ⟨pk_in (j * 8 + u) 64 (by omega) (jp_ix j 8 u), ?_⟩)
      rw [jp_c8 (by omega)]
      refine nm_e (nm_r (nI_1 u) (hw' _ (fun k hk => ?_)))
      by_cases e : k = j * 8 + u
      · rw [e, pk_us]
        by_cases e1 : u = 0
        · rw [if_pos e1, if_pos (by omega)]
        · rw [if_neg e1, if_neg (by omega)]
      · rw [pk_un e]
        exact h' k (by omega)
theorem jq_tr1 {post : St2 → Prop} {f1 f2 f3 f4 f5 f6 f7 f8 f9 f10 f11 : Int32} {a1 a2 a3 a4 a5 a6 a7 a8 a9 a10 a11 a12 a13 a14 a15 a16 : Nat → Int32} {a17 : Nat → Int64} {b : Nat} {g : Int32} (hb : b < 4) (hg : ∀ j i, j < 8 → i < 8 → a1 (jp_co b + j * 16 + i) = g) (H : ∀ t : Nat → Int32, (∀ k, k < 64 → t k = g - 128) → ∃ fu, wX_transform_68 post f1 f2 f3 f4 f5 f6 f7 f8 f9 f10 f11 fu 0 a1 a2 a3 a4 a5 a6 a7 a8 a9 a10 a11 a12 a13 a14 t a16 a17) :
    ∃ fu, wX_transform_8 post (nI (jp_co b)) f1 f2 f3 f4 f5 f6 f7 f8 f9 f10 f11 fu 0 a1 a2 a3 a4 a5 a6 a7 a8 a9 a10 a11 a12 a13 a14 a15 a16 a17 := by
  have hco := jp_co_le b hb
  refine pk_loop (fun n j (t : Nat → Int32) => wX_transform_8 post (nI (jp_co b)) f1 f2 f3 f4 f5 f6 f7 f8 f9 f10 f11 n (nI j) a1 a2 a3 a4 a5 a6 a7 a8 a9 a10 a11 a12 a13 a14 t a16 a17) (fun j t => ∀ k, k < 8 * j → t k = g - 128) 8 0 a15 (by omega) (fun k h => absurd h (by omega)) ?_ ?_
  · intro n t h
    exact pk_le 8 8 (fun _ => H t h) (fun z => absurd z (by omega))
  · intro n j t hj h hw
    refine pk_le 8 j (fun z => absurd z (by omega)) (fun _ => ?_)
    refine pk_loop (fun n' i (t : Nat → Int32) => wX_transform_17 post (wX_transform_8 post (nI (jp_co b)) f1 f2 f3 f4 f5 f6 f7 f8 f9 f10 f11 n) (nI (jp_co b)) (nI j) f1 f2 f3 f4 f5 f6 f7 f8 f9 f10 f11 n' (nI i) a1 a2 a3 a4 a5 a6 a7 a8 a9 a10 a11 a12 a13 a14 t a16 a17) (fun i t => ∀ k, k < 8 * j + i → t k = g - 128) 8 0 t (by omega) h ?_ ?_
    · intro n' t' h'
      exact pk_le 8 8 (fun _ => nm_r (nI_1 j) (hw t' (fun k hk => h' k (by omega)))) (fun z => absurd z (by omega))
    · intro n' i t' hi h' hw'
      refine pk_le 8 i (fun z => absurd z (by omega)) (fun _ => ⟨pk_in (jp_co b + j * 16 + i) 256 (by omega) (jp_ix2 (jp_co b) j 16 i), pk_in (j * 8 + i) 64 (by omega) (jp_ix j 8 i), ?_⟩)
      rw [jp_c8 (by omega), jp_c16 (by omega), hg j i hj hi]
      refine nm_e (nm_r (nI_1 i) (hw' _ (fun k hk => ?_)))
      by_cases e : k = j * 8 + i
      · rw [e, pk_us]
      · rw [pk_un e]
        exact h' k (by omega)
theorem jq_transform {post : St2 → Prop} {f1 f2 f3 f4 f5 f6 f7 f8 f9 f10 f11 : Int32} {a1 a2 a3 a4 a5 a6 a7 a8 a9 a10 a11 a12 a13 a14 a15 a16 : Nat → Int32} {a17 : Nat → Int64} {b : Nat} {g : Int32} (hq : ∀ j, j < 9 → a2 j = jp_qt j) (hb : b < 4) (hg : ∀ j i, j < 8 → i < 8 → a1 (jp_co b + j * 16 + i) = g)
    (H : ∀ t15 t16 : Nat → Int32, (∀ k, k < 64 → t16 k = if k = 0 then (g - 128) * 512 * 512 else 0) → post (f1, f2, f3, f4, f5, f6, f7, f8, f9, f10, f11, a1, a2, a3, a4, a5, a6, a7, a8, a9, a10, a11, a12, a13, a14, t15, t16, a17)) : wpX_transform post (f1, f2, f3, f4, f5, f6, f7, f8, f9, f10, f11, a1, a2, a3, a4, a5, a6, a7, a8, a9, a10, a11, a12, a13, a14, a15, a16, a17) (nI b) := by
  show ∃ fu, wX_transform_8 post (((nI b >>> ((1 : Int32) &&& 31)) * 8) * 16 + (nI b &&& 1) * 8) f1 f2 f3 f4 f5 f6 f7 f8 f9 f10 f11 fu 0 a1 a2 a3 a4 a5 a6 a7 a8 a9 a10 a11 a12 a13 a14 a15 a16 a17
  rw [jp_corner b hb]
  refine jq_tr1 hb hg (fun t15 h15 => jq_tr2 hq h15 (fun t16 h16 => jq_tr3 (fun t15' h15' => jq_tr4 (d := (g - 128) * 512) hq (fun k hk => ?_) (fun t16' h16' => H t15' t16' h16'))))
  rw [h15' k hk, h16 k hk]
end
section
/-! walks: quantise, show -/
def jp_lvl (h : Int) (q : Nat) : Int := if h < 0 then -(((32 * h.natAbs + q) / (2 * q) : Nat) : Int) else (((32 * h.natAbs + q) / (2 * q) : Nat) : Int)
def jp_due (l : Int) (q : Nat) : Int := if (l * q + 8) / 16 < -128 then 0 else if 127 < (l * q + 8) / 16 then 255 else 128 + (l * q + 8) / 16
theorem jq_step {post : Int32 → Prop} {f1 f2 f4 f5 f6 f7 f8 f9 f10 f11 : Int32} {a1 a2 a3 a4 a5 a6 a7 a8 a9 a10 a11 a12 a13 a14 a15 a16 : Nat → Int32} {a17 : Nat → Int64} {q u v : Nat} (H : post (nI (8192 * q * (2 + u + v)))) : wpX_step post (f1, f2, (nI q), f4, f5, f6, f7, f8, f9, f10, f11, a1, a2, a3, a4, a5, a6, a7, a8, a9, a10, a11, a12, a13, a14, a15, a16, a17) (nI u) (nI v) := by
  show post ((8192 * nI q) * ((2 + nI u) + nI v))
  rw [show (8192 : Int32) * nI q = nI (8192 * q) from pk_mul 8192 q, show (2 : Int32) + nI u = nI (2 + u) from nI_add 2 u, nI_add, pk_mul]
  exact H
theorem jq_q55 {post : St2 → Prop} {J7 J15 : Int32 → (Nat → Int32) → (Nat → Int32) → (Nat → Int32) → (Nat → Int32) → (Nat → Int32) → (Nat → Int32) → (Nat → Int32) → (Nat → Int32) → (Nat → Int32) → (Nat → Int32) → (Nat → Int32) → (Nat → Int32) → (Nat → Int32) → (Nat → Int32) → (Nat → Int32) → (Nat → Int32) → (Nat → Int64) → Prop} {f1 f2 f3 f4 f5 f6 f7 f8 f9 f10 f11 : Int32} {a1 a2 a3 a4 a5 a6 a7 a8 a9 a10 a11 a12 a13 a14 a15 a16 : Nat → Int32} {a17 : Nat → Int64} {b v u d : Nat} {σ : Int} {z : Int32} (hb : b < 4) (hv : v < 8) (hu : u < 8) (hd : 0 < d) (hd2 : d ≤ 1048576) (hs : σ.natAbs ≤ 33554432) (hz : z = nI σ.natAbs)
    (H : J15 (nI (u + 1)) a1 a2 a3 a4 a5 a6 a7 a8 a9 a10 a11 a12 (upd a13 (b * 64 + v * 8 + u) (jp_z (if σ < 0 then -(((2 * σ.natAbs + d) / (2 * d) : Nat) : Int) else (((2 * σ.natAbs + d) / (2 * d) : Nat) : Int)))) a14 a15 a16 a17) :
    wX_quantise_55 post J7 J15 (nI b) (nI v) (nI u) (nI d) (jp_z σ) z f1 f2 f3 f4 f5 f6 f7 f8 f9 f10 f11 a1 a2 a3 a4 a5 a6 a7 a8 a9 a10 a11 a12 a13 a14 a15 a16 a17 := by
  subst hz
  have e2 : (2 : Int32) * nI d = nI (2 * d) := pk_mul 2 d
  have e3 : ((2 * nI σ.natAbs) + nI d) / (2 * nI d) = nI ((2 * σ.natAbs + d) / (2 * d)) := by
    rw [e2, show (2 : Int32) * nI σ.natAbs = nI (2 * σ.natAbs) from pk_mul 2 _, nI_add, pk_div (by omega) (by omega) (by omega)]
  refine pk_le d 0 (fun y => absurd y (by omega)) (fun _ => ⟨by rw [e2]; exact nI_ne0 (by omega) (by omega), ?_⟩)
  rw [e3]
  refine jp_ble 0 σ (fun y => ⟨pk_in (b * 64 + v * 8 + u) 256 (by omega) (jp_ix3 b 64 v 8 u), ?_⟩) (fun y => ⟨pk_in (b * 64 + v * 8 + u) 256 (by omega) (jp_ix3 b 64 v 8 u), ?_⟩)
  · rw [jp_c3 (by omega)]
    rw [if_neg (by omega), jp_zn] at H
    exact nm_e (nm_r (nI_1 u) H)
  · rw [jp_c3 (by omega)]
    rw [if_pos y, ← jp_zneg, jp_zn] at H
    exact nm_e (nm_r (nI_1 u) H)
theorem jq_quantise {post : St2 → Prop} {f1 f2 f4 f5 f6 f7 f8 f9 f10 f11 : Int32} {a1 a2 a3 a4 a5 a6 a7 a8 a9 a10 a11 a12 a13 a14 a15 a16 : Nat → Int32} {a17 : Nat → Int64} {b q : Nat} {h : Int} (hq : ∀ j, j < 9 → a2 j = jp_qt j) (hb : b < 4) (hq1 : 1 ≤ q) (hq2 : q ≤ 8) (h1 : -128 ≤ h) (h2 : h ≤ 127) (hg : ∀ j i, j < 8 → i < 8 → a1 (jp_co b + j * 16 + i) = jp_z (h + 128))
    (H : ∀ t13 t15 t16 : Nat → Int32, (∀ k, k < 64 → t13 (b * 64 + k) = if k = 0 then jp_z (jp_lvl h q) else 0) → (∀ k, k < b * 64 ∨ b * 64 + 64 ≤ k → t13 k = a13 k) → post (f1, f2, (nI q), f4, f5, f6, f7, f8, f9, f10, f11, a1, a2, a3, a4, a5, a6, a7, a8, a9, a10, a11, a12, t13, a14, t15, t16, a17)) :
    wpX_quantise post (f1, f2, (nI q), f4, f5, f6, f7, f8, f9, f10, f11, a1, a2, a3, a4, a5, a6, a7, a8, a9, a10, a11, a12, a13, a14, a15, a16, a17) (nI b) := by
  refine jq_transform hq hb hg (fun t15 t16 h16 => ?_)
  have hs : ∀ k, k < 64 → t16 k = jp_z (if k = 0 then h * 262144 else 0) := fun k hk => by
    rw [h16 k hk]
    by_cases e : k = 0
    · rw [if_pos e, if_pos e, show (128 : Int32) = jp_z 128 from rfl, show (512 : Int32) = jp_z 512 from rfl, jp_zsub, jp_zmul, jp_zmul]
      exact congrArg jp_z (by omega)
    · rw [if_neg e, if_neg e]; rfl
  refine pk_loop (fun n v (t : Nat → Int32) => wX_quantise_7 post (nI b) f1 f2 (nI q) f4 f5 f6 f7 f8 f9 f10 f11 n (nI v) a1 a2 a3 a4 a5 a6 a7 a8 a9 a10 a11 a12 t a14 t15 t16 a17) (fun v t => (∀ k, k < 8 * v → t (b * 64 + k) = if k = 0 then jp_z (jp_lvl h q) else 0) ∧ (∀ k, k < b * 64 ∨ b * 64 + 64 ≤ k → t k = a13 k)) 8 0 a13 (by omega) ⟨fun k hk => absurd hk (by omega), fun _ _ => rfl⟩ ?_ ?_
  · intro n t ht
    exact pk_le 8 8 (fun _ => H t t15 t16 ht.1 ht.2) (fun z => absurd z (by omega))
  · intro n v t hv ht hw
    refine pk_le 8 v (fun z => absurd z (by omega)) (fun _ => ?_)
    refine pk_loop (fun n' u (t : Nat → Int32) => wX_quantise_15 post (wX_quantise_7 post (nI b) f1 f2 (nI q) f4 f5 f6 f7 f8 f9 f10 f11 n) (nI b) (nI v) f1 f2 (nI q) f4 f5 f6 f7 f8 f9 f10 f11 n' (nI u) a1 a2 a3 a4 a5 a6 a7 a8 a9 a10 a11 a12 t a14 t15 t16 a17) (fun u t => (∀ k, k < 8 * v + u → t (b * 64 + k) = if k = 0 then jp_z (jp_lvl h q) else 0) ∧ (∀ k, k < b * 64 ∨ b * 64 + 64 ≤ k → t k = a13 k)) 8 0 t (by omega) ht ?_ ?_
    · intro n' t' ht'
      exact pk_le 8 8 (fun _ => nm_r (nI_1 v) (hw t' ⟨fun k hk => ht'.1 k (by omega), ht'.2⟩)) (fun z => absurd z (by omega))
    · intro n' u t' hu ht' hw'
      have hd1 : 8192 * q * 2 ≤ 8192 * q * (2 + u + v) := Nat.mul_le_mul_left _ (by omega)
      have hd2 : 8192 * q * (2 + u + v) ≤ 8192 * 8 * 16 := Nat.mul_le_mul (by omega) (by omega)
      have J : ∀ σ : Int, σ = (if v * 8 + u = 0 then h * 262144 else 0) → wX_quantise_15 post (wX_quantise_7 post (nI b) f1 f2 (nI q) f4 f5 f6 f7 f8 f9 f10 f11 n) (nI b) (nI v) f1 f2 (nI q) f4 f5 f6 f7 f8 f9 f10 f11 n' (nI (u + 1)) a1 a2 a3 a4 a5 a6 a7 a8 a9 a10 a11 a12 (upd t' (b * 64 + v * 8 + u) (jp_z (if σ < 0 then -(((2 * σ.natAbs + 8192 * q * (2 + u + v)) / (2 * (8192 * q * (2 + u + v))) : Nat) : Int) else (((2 * σ.natAbs + 8192 * q * (2 + u + v)) / (2 * (8192 * q * (2 + u + v))) : Nat) : Int)))) a14 t15 t16 a17 := by
        intro σ hσ
        refine hw' _ ⟨fun k hk => ?_, fun k hk => ?_⟩
        · by_cases e : k = v * 8 + u
          · rw [show b * 64 + v * 8 + u = b * 64 + k by omega, pk_us]
            by_cases e0 : v * 8 + u = 0
            · rw [if_pos e0] at hσ
              rw [if_pos (show k = 0 by omega)]
              have ed : 8192 * q * (2 + u + v) = 16384 * q := by rw [show 2 + u + v = 2 by omega]; omega
              rw [ed, show 2 * σ.natAbs + 16384 * q = 16384 * (32 * h.natAbs + q) by omega, show 2 * (16384 * q) = 16384 * (2 * q) by omega, Nat.mul_div_mul_left _ _ (by omega)]
              unfold jp_lvl
              by_cases hn : h < 0
              · rw [if_pos hn, if_pos (show σ < 0 by omega)]
              · rw [if_neg hn, if_neg (show ¬ σ < 0 by omega)]
            · rw [if_neg e0] at hσ
              rw [if_neg (show ¬ k = 0 by omega), hσ, if_neg (show ¬ (0 : Int) < 0 by omega)]
              rw [Nat.div_eq_of_lt (by show 2 * 0 + _ < _; omega)]
              rfl
          · rw [pk_un (by omega)]
            exact ht'.1 k (by omega)
        · rw [pk_un (by omega)]
          exact ht'.2 k hk
      have hA : (if v * 8 + u = 0 then h * 262144 else 0 : Int).natAbs ≤ 33554432 := by split <;> omega
      refine pk_le 8 u (fun z => absurd z (by omega)) (fun _ => jq_step ⟨pk_in (v * 8 + u) 64 (by omega) (jp_ix v 8 u), ?_⟩)
      rw [jp_c8 (by omega), hs _ (by omega)]
      have J' := J _ rfl
      generalize (if v * 8 + u = 0 then h * 262144 else 0 : Int) = σ at *
      refine nm_e (jp_ble 0 σ (fun y => jq_q55 hb hv hu (by omega) (by omega) hA ?_ J') (fun y => jq_q55 hb hv hu (by omega) (by omega) hA ?_ J'))
      · rw [← jp_zn]
        exact congrArg jp_z (by omega)
      · rw [jp_zneg, ← jp_zn]
        exact congrArg jp_z (by omega)
theorem jq_unfolded {post : Int64 → Prop} {f1 f2 f3 f4 f5 f6 f7 f8 f9 f10 f11 : Int32} {a1 a2 a3 a4 a5 a6 a7 a8 a9 a10 a11 a12 a13 a14 a15 a16 : Nat → Int32} {a17 : Nat → Int64} {fr st i : Nat} {w : Int64} (hq : ∀ j, j < 9 → a2 j = jp_qt j) (hi : i < 8) (hf : fr + 7 * st < 64) (h0 : a17 fr = w) (h1 : ∀ u, 1 ≤ u → u < 8 → a17 (fr + u * st) = 0) (H : post (w * 64)) : wpX_unfolded post (f1, f2, f3, f4, f5, f6, f7, f8, f9, f10, f11, a1, a2, a3, a4, a5, a6, a7, a8, a9, a10, a11, a12, a13, a14, a15, a16, a17) (nI fr) (nI st) (nI i) := by
  refine ⟨pk_in fr 64 (by omega), jq_wave (u := 0) hq (by omega) hi ?_⟩
  rw [nI_clamp (by omega), h0, jp_wv0 i hi]
  refine nm_r (e' := w * 64) rfl ?_
  refine pk_loop (fun n u (s : Int64) => wX_unfolded_19 post (nI fr) (nI st) (nI i) f1 f2 f3 f4 f5 f6 f7 f8 f9 f10 f11 a1 a2 a3 a4 a5 a6 a7 a8 a9 a10 a11 a12 a13 a14 a15 a16 a17 n s (nI u)) (fun u s => 1 ≤ u ∧ s = w * 64) 8 1 (w * 64) (by omega) ⟨by omega, rfl⟩ ?_ ?_
  · intro n s h
    refine pk_le 8 8 (fun _ => ?_) (fun z => absurd z (by omega))
    rw [h.2]
    exact H
  · intro n u s hu h hw
    have hm : u * st ≤ 7 * st := Nat.mul_le_mul_right st (by omega)
    refine pk_le 8 u (fun z => absurd z (by omega)) (fun _ => ⟨pk_in (fr + u * st) 64 (by omega) (jp_ix1 fr u st), jq_wave hq hu hi ?_⟩)
    rw [pk_cl (fr + u * st) (jp_ix1 fr u st), h1 u h.1 hu]
    refine nm_e (nm_r (nI_1 u) (hw _ ⟨by omega, ?_⟩))
    rw [h.2, Int64.mul_zero, Int64.zero_mul, Int64.add_zero]
theorem jq_column {post : St2 → Prop} {f1 f2 f3 f4 f5 f6 f7 f8 f9 f10 f11 : Int32} {a1 a2 a3 a4 a5 a6 a7 a8 a9 a10 a11 a12 a13 a14 a15 a16 : Nat → Int32} {a17 : Nat → Int64} {u : Nat} {w : Int64} (hq : ∀ j, j < 9 → a2 j = jp_qt j) (hu : u < 8) (h0 : a17 u = w) (h1 : ∀ v, 1 ≤ v → v < 8 → a17 (u + v * 8) = 0)
    (H : ∀ t : Nat → Int64, (∀ k, k < 64 → t k = if k % 8 = u then w * 64 else a17 k) → post (f1, f2, f3, f4, f5, f6, f7, f8, f9, f10, f11, a1, a2, a3, a4, a5, a6, a7, a8, a9, a10, a11, a12, a13, a14, a15, a16, t)) : wpX_unfoldColumn post (f1, f2, f3, f4, f5, f6, f7, f8, f9, f10, f11, a1, a2, a3, a4, a5, a6, a7, a8, a9, a10, a11, a12, a13, a14, a15, a16, a17) (nI u) := by
  refine jq_unfolded (st := 8) (i := 0) hq (by omega) (by omega) h0 h1 (jq_unfolded (st := 8) (i := 1) hq (by omega) (by omega) h0 h1 (jq_unfolded (st := 8) (i := 2) hq (by omega) (by omega) h0 h1 (jq_unfolded (st := 8) (i := 3) hq (by omega) (by omega) h0 h1 (jq_unfolded (st := 8) (i := 4) hq (by omega) (by omega) h0 h1 (jq_unfolded (st := 8) (i := 5) hq (by omega) (by omega) h0 h1 (jq_unfolded (st := 8) (i := 6) hq (by omega) (by omega) h0 h1 (jq_unfolded (st := 8) (i := 7) hq (by omega) (by omega) h0 h1 ?_)))))))
  refine ⟨pk_in u 64 (by omega), nm_e ⟨pk_in (8 + u) 64 (by omega) (nI_add 8 u), nm_e ⟨pk_in (16 + u) 64 (by omega) (nI_add 16 u), nm_e ⟨pk_in (24 + u) 64 (by omega) (nI_add 24 u), nm_e ⟨pk_in (32 + u) 64 (by omega) (nI_add 32 u), nm_e ⟨pk_in (40 + u) 64 (by omega) (nI_add 40 u), nm_e ⟨pk_in (48 + u) 64 (by omega) (nI_add 48 u), nm_e ⟨pk_in (56 + u) 64 (by omega) (nI_add 56 u), nm_e ?_⟩⟩⟩⟩⟩⟩⟩⟩
  refine H _ (fun k hk => ?_)
  have c0 : ∀ n : Nat, n ≤ 56 → (nI n + nI u).toNatClampNeg = n + u := fun n hn => pk_cl _ (nI_add n u)
  rw [nI_clamp (by omega), show (8 + nI u : Int32).toNatClampNeg = 8 + u from c0 8 (by omega), show (16 + nI u : Int32).toNatClampNeg = 16 + u from c0 16 (by omega), show (24 + nI u : Int32).toNatClampNeg = 24 + u from c0 24 (by omega), show (32 + nI u : Int32).toNatClampNeg = 32 + u from c0 32 (by omega), show (40 + nI u : Int32).toNatClampNeg = 40 + u from c0 40 (by omega), show (48 + nI u : Int32).toNatClampNeg = 48 + u from c0 48 (by omega), show (56 + nI u : Int32).toNatClampNeg = 56 + u from c0 56 (by omega)]
  by_cases e : k % 8 = u
  · rw [if_pos e]
    rcases (by omega : k = 56 + u ∨ k = 48 + u ∨ k = 40 + u ∨ k = 32 + u ∨ k = 24 + u ∨ k = 16 + u ∨ k = 8 + u ∨ k = u) with rfl | rfl | rfl | rfl | rfl | rfl | rfl | rfl
    · rw [pk_uLs]
    · rw [pk_uLn (by omega), pk_uLs]
    · rw [pk_uLn (by omega), pk_uLn (by omega), pk_uLs]
    · rw [pk_uLn (by omega), pk_uLn (by omega), pk_uLn (by omega), pk_uLs]
    · rw [pk_uLn (by omega), pk_uLn (by omega), pk_uLn (by omega), pk_uLn (by omega), pk_uLs]
    · rw [pk_uLn (by omega), pk_uLn (by omega), pk_uLn (by omega), pk_uLn (by omega), pk_uLn (by omega), pk_uLs]
    · rw [pk_uLn (by omega), pk_uLn (by omega), pk_uLn (by omega), pk_uLn (by omega), pk_uLn (by omega), pk_uLn (by omega), pk_uLs]
    · rw [pk_uLn (by omega), pk_uLn (by omega), pk_uLn (by omega), pk_uLn (by omega), pk_uLn (by omega), pk_uLn (by omega), pk_uLn (by omega), pk_uLs]
  · rw [if_neg e, pk_uLn (by omega), pk_uLn (by omega), pk_uLn (by omega), pk_uLn (by omega), pk_uLn (by omega), pk_uLn (by omega), pk_uLn (by omega), pk_uLn (by omega)]
theorem jq_clamp {post : Int32 → Prop} {f1 f2 f3 f4 f5 f6 f7 f8 f9 f10 f11 : Int32} {a1 a2 a3 a4 a5 a6 a7 a8 a9 a10 a11 a12 a13 a14 a15 a16 : Nat → Int32} {a17 : Nat → Int64} {z : Int} (h1 : -100000 ≤ z) (h2 : z ≤ 100000) (H : post (jp_z (if z < -128 then 0 else if 127 < z then 255 else 128 + z))) : wpX_clamp post (f1, f2, f3, f4, f5, f6, f7, f8, f9, f10, f11, a1, a2, a3, a4, a5, a6, a7, a8, a9, a10, a11, a12, a13, a14, a15, a16, a17) (128 + jp_z z) := by
  rw [show (128 : Int32) + jp_z z = jp_z (128 + z) from jp_zadd 128 z]
  refine jp_ble 0 (128 + z) (fun y => jp_ble (128 + z) 255 (fun y2 => ?_) (fun y2 => ?_)) (fun y => ?_)
  · rw [if_neg (by omega), if_neg (by omega)] at H
    exact H
  · rw [if_neg (by omega), if_pos (by omega)] at H
    exact H
  · rw [if_pos (by omega)] at H
    exact H
theorem jp_lshr (a s : Int64) (k : Nat) (hs : (s.toBitVec.smod 64).toNat = k) : (a >>> s).toInt = a.toInt >>> k := by
  show (a.toBitVec.sshiftRight (s.toBitVec.smod 64).toNat).toInt = _
  rw [hs, BitVec.toInt_sshiftRight]
  rfl
def jp_big (l : Int) (q : Nat) : Int64 := Int64.ofInt (l * (16384 * q))
theorem jp_wide {l : Int} {q : Nat} (h1 : -4096 ≤ l) (h2 : l ≤ 4096) (hq : q ≤ 8) : (jp_z l).toInt64 * (nI (16384 * q)).toInt64 = jp_big l q := by
  have e1 : (jp_z l).toInt64 = Int64.ofInt l := by
    apply Int64.toInt_inj.mp
    rw [Int32.toInt_toInt64, jp_zt (by omega) (by omega), Int64.toInt_ofInt_of_le (by omega) (by omega)]
  have e2 : (nI (16384 * q)).toInt64 = Int64.ofInt (16384 * q) := by
    apply Int64.toInt_inj.mp
    rw [Int32.toInt_toInt64, nI_toInt (by omega), Int64.toInt_ofInt_of_le (by omega) (by omega)]
    omega
  rw [e1, e2, ← Int64.ofInt_mul]
  rfl
theorem jp_lq {l : Int} {q : Nat} (h1 : -4096 ≤ l) (h2 : l ≤ 4096) (hq : q ≤ 8) : -32768 ≤ l * q ∧ l * q ≤ 32768 := by
  rcases (by omega : q = 0 ∨ q = 1 ∨ q = 2 ∨ q = 3 ∨ q = 4 ∨ q = 5 ∨ q = 6 ∨ q = 7 ∨ q = 8) with rfl | rfl | rfl | rfl | rfl | rfl | rfl | rfl | rfl <;> omega
theorem jp_back {l : Int} {q : Nat} (h1 : -4096 ≤ l) (h2 : l ≤ 4096) (hq : q ≤ 8) : ((jp_big l q * 64 * 64 + 536870912) >>> ((30 : Int32).toInt64 &&& 63)).toInt32 = jp_z ((l * q + 8) / 16) := by
  obtain ⟨b1, b2⟩ := jp_lq h1 h2 hq
  have e : jp_big l q * 64 * 64 + 536870912 = Int64.ofInt ((l * q) * 67108864 + 536870912) := by
    unfold jp_big
    rw [show (64 : Int64) = Int64.ofInt 64 from rfl, show (536870912 : Int64) = Int64.ofInt 536870912 from rfl, ← Int64.ofInt_mul, ← Int64.ofInt_mul, ← Int64.ofInt_add]
    refine congrArg Int64.ofInt ?_
    rw [show l * (16384 * (q : Int)) = (l * q) * 16384 by rw [Int.mul_comm 16384, Int.mul_assoc]]
    omega
  generalize l * (q : Int) = m at *
  apply Int32.toInt_inj.mp
  rw [e, Int64.toInt_toInt32, jp_lshr _ _ 30 (by decide), Int64.toInt_ofInt_of_le (by omega) (by omega), Int.shiftRight_eq_div_pow, jp_zt (by omega) (by omega)]
  rw [show ((2 ^ 30 : Nat) : Int) = 1073741824 from rfl, show (m * 67108864 + 536870912) / 1073741824 = (m + 8) / 16 by omega]
  exact Int.bmod_eq_of_le (by omega) (by omega)
theorem jq_show91 {post : St2 → Prop} {f1 f2 f3 f4 f5 f6 f7 f8 f9 f10 f11 : Int32} {a1 a2 a3 a4 a5 a6 a7 a8 a9 a10 a11 a12 a13 a14 a15 a16 : Nat → Int32} {a17 : Nat → Int64} {b q : Nat} {l : Int} (hq : ∀ j, j < 9 → a2 j = jp_qt j) (hb : b < 4) (hl1 : -4096 ≤ l) (hl2 : l ≤ 4096) (hq2 : q ≤ 8) (hw : ∀ k, k < 64 → a17 k = if k % 8 = 0 then jp_big l q * 64 else 0)
    (H : ∀ t : Nat → Int32, (∀ j i, j < 8 → i < 8 → t (jp_co b + j * 16 + i) = jp_z (jp_due l q)) → (∀ k, (∀ j i, j < 8 → i < 8 → k ≠ jp_co b + j * 16 + i) → t k = a14 k) → post (f1, f2, f3, f4, f5, f6, f7, f8, f9, f10, f11, a1, a2, a3, a4, a5, a6, a7, a8, a9, a10, a11, a12, a13, t, a15, a16, a17)) :
    ∃ fu, wX_showBlock_91 post (nI (jp_co b)) f1 f2 f3 f4 f5 f6 f7 f8 f9 f10 f11 fu 0 a1 a2 a3 a4 a5 a6 a7 a8 a9 a10 a11 a12 a13 a14 a15 a16 a17 := by
  have hco := jp_co_le b hb
  obtain ⟨b1, b2⟩ := jp_lq hl1 hl2 hq2
  refine pk_loop (fun n j (t : Nat → Int32) => wX_showBlock_91 post (nI (jp_co b)) f1 f2 f3 f4 f5 f6 f7 f8 f9 f10 f11 n (nI j) a1 a2 a3 a4 a5 a6 a7 a8 a9 a10 a11 a12 a13 t a15 a16 a17) (fun j t => (∀ j' i', j' < j → i' < 8 → t (jp_co b + j' * 16 + i') = jp_z (jp_due l q)) ∧ (∀ k, (∀ j i, j < 8 → i < 8 → k ≠ jp_co b + j * 16 + i) → t k = a14 k)) 8 0 a14 (by omega) ⟨fun j' i' h _ => absurd h (by omega), fun _ _ => rfl⟩ ?_ ?_
  · intro n t h
    exact pk_le 8 8 (fun _ => H t h.1 h.2) (fun z => absurd z (by omega))
  · intro n j t hj h hwk
    refine pk_le 8 j (fun z => absurd z (by omega)) (fun _ => ?_)
    refine pk_loop (fun n' i (t : Nat → Int32) => wX_showBlock_100 post (wX_showBlock_91 post (nI (jp_co b)) f1 f2 f3 f4 f5 f6 f7 f8 f9 f10 f11 n) (nI (jp_co b)) (nI j) f1 f2 f3 f4 f5 f6 f7 f8 f9 f10 f11 n' (nI i) a1 a2 a3 a4 a5 a6 a7 a8 a9 a10 a11 a12 a13 t a15 a16 a17) (fun i t => (∀ j' i', i' < 8 → (j' < j ∨ (j' = j ∧ i' < i)) → t (jp_co b + j' * 16 + i') = jp_z (jp_due l q)) ∧ (∀ k, (∀ j i, j < 8 → i < 8 → k ≠ jp_co b + j * 16 + i) → t k = a14 k)) 8 0 t (by omega) ⟨fun j' i' h1 h2 => h.1 j' i' (by omega) h1, h.2⟩ ?_ ?_
    · intro n' t' h'
      exact pk_le 8 8 (fun _ => nm_r (nI_1 j) (hwk t' ⟨fun j' i' h1 h2 => h'.1 j' i' h2 (by omega), h'.2⟩)) (fun z => absurd z (by omega))
    · intro n' i t' hi h' hw'
      have H0 : ∀ p : Int64 → Prop, p (jp_big l q * 64 * 64) → wpX_unfolded p (f1, f2, f3, f4, f5, f6, f7, f8, f9, f10, f11, a1, a2, a3, a4, a5, a6, a7, a8, a9, a10, a11, a12, a13, t', a15, a16, a17) (nI j * 8) 1 (nI i) := fun p hp => by
        rw [show nI j * 8 = nI (j * 8) from pk_mul j 8]
        refine jq_unfolded (st := 1) (w := jp_big l q * 64) hq hi (by omega) ?_ (fun u u1 u2 => ?_) hp
        · rw [hw _ (by omega), if_pos (by omega)]
        · rw [hw _ (by omega), if_neg (by omega)]
      refine pk_le 8 i (fun z => absurd z (by omega)) (fun _ => H0 _ (nm_r (jp_back hl1 hl2 hq2) (jq_clamp (by omega) (by omega) ⟨pk_in (jp_co b + j * 16 + i) 256 (by omega) (jp_ix2 (jp_co b) j 16 i), ?_⟩)))
      rw [jp_c16 (by omega)]
      refine nm_e (nm_r (nI_1 i) (hw' _ ⟨fun j' i' h1 h2 => ?_, fun k hk => ?_⟩))
      · by_cases e : j' = j ∧ i' = i
        · rw [e.1, e.2, pk_us]; rfl
        · rw [pk_un (by omega)]
          exact h'.1 j' i' h1 (by omega)
      · rw [pk_un (hk j i hj hi)]
        exact h'.2 k hk
theorem jq_show66 {post : St2 → Prop} {f1 f2 f3 f4 f5 f6 f7 f8 f9 f10 f11 : Int32} {a1 a2 a3 a4 a5 a6 a7 a8 a9 a10 a11 a12 a13 a14 a15 a16 : Nat → Int32} {a17 : Nat → Int64} {b q : Nat} {l : Int} (hq : ∀ j, j < 9 → a2 j = jp_qt j) (hb : b < 4) (hl1 : -4096 ≤ l) (hl2 : l ≤ 4096) (hq2 : q ≤ 8) (hw : ∀ k, k < 64 → a17 k = if k = 0 then jp_big l q else 0)
    (H : ∀ (t : Nat → Int32) (t17 : Nat → Int64), (∀ j i, j < 8 → i < 8 → t (jp_co b + j * 16 + i) = jp_z (jp_due l q)) → (∀ k, (∀ j i, j < 8 → i < 8 → k ≠ jp_co b + j * 16 + i) → t k = a14 k) → post (f1, f2, f3, f4, f5, f6, f7, f8, f9, f10, f11, a1, a2, a3, a4, a5, a6, a7, a8, a9, a10, a11, a12, a13, t, a15, a16, t17)) :
    ∃ fu, wX_showBlock_66 post (nI b) fu 0 f1 f2 f3 f4 f5 f6 f7 f8 f9 f10 f11 a1 a2 a3 a4 a5 a6 a7 a8 a9 a10 a11 a12 a13 a14 a15 a16 a17 := by
  refine pk_loop (fun n u (t : Nat → Int64) => wX_showBlock_66 post (nI b) n (nI u) f1 f2 f3 f4 f5 f6 f7 f8 f9 f10 f11 a1 a2 a3 a4 a5 a6 a7 a8 a9 a10 a11 a12 a13 a14 a15 a16 t) (fun u t => ∀ k, k < 64 → t k = if k % 8 < u then (if k % 8 = 0 then jp_big l q * 64 else 0) else if k = 0 then jp_big l q else 0) 8 0 a17 (by omega) (fun k hk => by rw [if_neg (by omega)]; exact hw k hk) ?_ ?_
  · intro n t h
    refine pk_le 8 8 (fun _ => ?_) (fun z => absurd z (by omega))
    show ∃ fu, wX_showBlock_91 post (((nI b >>> ((1 : Int32) &&& 31)) * 8) * 16 + (nI b &&& 1) * 8) f1 f2 f3 f4 f5 f6 f7 f8 f9 f10 f11 fu 0 a1 a2 a3 a4 a5 a6 a7 a8 a9 a10 a11 a12 a13 a14 a15 a16 t
    rw [jp_corner b hb]
    exact jq_show91 hq hb hl1 hl2 hq2 (fun k hk => by rw [h k hk, if_pos (by omega)]) (fun t' h1 h2 => H t' t h1 h2)
  · intro n u t hu h hwk
    refine pk_le 8 u (fun z => absurd z (by omega)) (fun _ => jq_column (w := if u = 0 then jp_big l q else 0) hq hu ?_ (fun v v1 v2 => ?_) (fun t' h' => nm_r (nI_1 u) (hwk t' (fun k hk => ?_))))
    · rw [h u (by omega), if_neg (by omega)]
    · rw [h _ (by omega), if_neg (by omega), if_neg (by omega)]
    · rw [h' k hk, h k hk]
      by_cases e : k % 8 = u
      · rw [if_pos e, if_pos (show k % 8 < u + 1 by omega)]
        by_cases e0 : u = 0
        · rw [if_pos e0, if_pos (show k % 8 = 0 by omega)]
        · rw [if_neg e0, if_neg (show ¬ k % 8 = 0 by omega), Int64.zero_mul]
      · rw [if_neg e]
        by_cases e1 : k % 8 < u
        · rw [if_pos e1, if_pos (show k % 8 < u + 1 by omega)]
        · rw [if_neg e1, if_neg (show ¬ k % 8 < u + 1 by omega)]
theorem jq_showBlock {post : St2 → Prop} {f1 f2 f4 f5 f6 f7 f8 f9 f10 f11 : Int32} {a1 a2 a3 a4 a5 a6 a7 a8 a9 a10 a11 a12 a13 a14 a15 a16 : Nat → Int32} {a17 : Nat → Int64} {b q : Nat} {l : Int} (hq : ∀ j, j < 9 → a2 j = jp_qt j) (hb : b < 4) (hl1 : -4096 ≤ l) (hl2 : l ≤ 4096) (hq2 : q ≤ 8) (hv : ∀ k, k < 64 → a13 (b * 64 + k) = if k = 0 then jp_z l else 0)
    (H : ∀ (t : Nat → Int32) (t17 : Nat → Int64), (∀ j i, j < 8 → i < 8 → t (jp_co b + j * 16 + i) = jp_z (jp_due l q)) → (∀ k, (∀ j i, j < 8 → i < 8 → k ≠ jp_co b + j * 16 + i) → t k = a14 k) → post (f1, f2, (nI q), f4, f5, f6, f7, f8, f9, f10, f11, a1, a2, a3, a4, a5, a6, a7, a8, a9, a10, a11, a12, a13, t, a15, a16, t17)) :
    wpX_showBlock post (f1, f2, (nI q), f4, f5, f6, f7, f8, f9, f10, f11, a1, a2, a3, a4, a5, a6, a7, a8, a9, a10, a11, a12, a13, a14, a15, a16, a17) (nI b) := by
  refine pk_loop (fun n v (t : Nat → Int64) => wX_showBlock_2 post (nI b) f1 f2 (nI q) f4 f5 f6 f7 f8 f9 f10 f11 n (nI v) a1 a2 a3 a4 a5 a6 a7 a8 a9 a10 a11 a12 a13 a14 a15 a16 t) (fun v t => ∀ k, k < 8 * v → t k = if k = 0 then jp_big l q else 0) 8 0 a17 (by omega) (fun k hk => absurd hk (by omega)) ?_ ?_
  · intro n t h
    exact pk_le 8 8 (fun _ => jq_show66 hq hb hl1 hl2 hq2 h H) (fun z => absurd z (by omega))
  · intro n v t hv8 h hw
    refine pk_le 8 v (fun z => absurd z (by omega)) (fun _ => ?_)
    refine pk_loop (fun n' u (t : Nat → Int64) => wX_showBlock_10 post (wX_showBlock_2 post (nI b) f1 f2 (nI q) f4 f5 f6 f7 f8 f9 f10 f11 n) (nI b) (nI v) f1 f2 (nI q) f4 f5 f6 f7 f8 f9 f10 f11 n' (nI u) a1 a2 a3 a4 a5 a6 a7 a8 a9 a10 a11 a12 a13 a14 a15 a16 t) (fun u t => ∀ k, k < 8 * v + u → t k = if k = 0 then jp_big l q else 0) 8 0 t (by omega) h ?_ ?_
    · intro n' t' h'
      exact pk_le 8 8 (fun _ => nm_r (nI_1 v) (hw t' (fun k hk => h' k (by omega)))) (fun z => absurd z (by omega))
    · intro n' u t' hu h' hw'
      have ex := hv (v * 8 + u) (by omega)
      rw [← Nat.add_assoc] at ex
      refine pk_le 8 u (fun z => absurd z (by omega)) (fun _ => ⟨pk_in (b * 64 + v * 8 + u) 256 (by omega) (jp_ix3 b 64 v 8 u), jq_step ⟨pk_in (v * 8 + u) 64 (by omega) (jp_ix v 8 u), ?_⟩⟩)
      rw [jp_c8 (by omega), jp_c3 (by omega), ex]
      refine nm_e (nm_r (nI_1 u) (hw' _ (fun k hk => ?_)))
      by_cases e : k = v * 8 + u
      · rw [e, pk_uLs]
        by_cases e0 : v * 8 + u = 0
        · rw [if_pos e0, if_pos e0, show 8192 * q * (2 + u + v) = 16384 * q by rw [show 2 + u + v = 2 by omega]; omega]
          exact jp_wide hl1 hl2 hq2
        · rw [if_neg e0, if_neg e0, show (0 : Int32).toInt64 = 0 from rfl, Int64.zero_mul]
      · rw [pk_uLn e]
        exact h' k (by omega)
end
section
/-! walks: sizes, symbols, blocks -/
theorem jq_sizeOf {post : Int32 → Prop} {f1 f2 f3 f4 f5 f6 f7 f8 f9 f10 f11 : Int32} {a1 a2 a3 a4 a5 a6 a7 a8 a9 a10 a11 a12 a13 a14 a15 a16 : Nat → Int32} {a17 : Nat → Int64} {c : Int} (hc : c.natAbs < 2 ^ 13) (H : post (nI (jp_sz c))) : wpX_sizeOf post (f1, f2, f3, f4, f5, f6, f7, f8, f9, f10, f11, a1, a2, a3, a4, a5, a6, a7, a8, a9, a10, a11, a12, a13, a14, a15, a16, a17) (jp_z c) := by
  have h1 := jp_sz_lt c
  have h2 := jp_sz_le hc
  have main : ∃ fu, wX_sizeOf_16 post (nI c.natAbs) f1 f2 f3 f4 f5 f6 f7 f8 f9 f10 f11 a1 a2 a3 a4 a5 a6 a7 a8 a9 a10 a11 a12 a13 a14 a15 a16 a17 fu 0 0 := by
    refine pk_loop (σ := Unit) (fun n i _ => wX_sizeOf_16 post (nI c.natAbs) f1 f2 f3 f4 f5 f6 f7 f8 f9 f10 f11 a1 a2 a3 a4 a5 a6 a7 a8 a9 a10 a11 a12 a13 a14 a15 a16 a17 n (nI i) (nI i)) (fun _ _ => True) (jp_sz c) 0 () (by omega) trivial ?_ ?_
    · intro n _ _
      refine pk_le 14 (jp_sz c) (fun _ => H) (fun _ => br_t ?_ H)
      rw [jp_shr (by omega) (by omega), Nat.div_eq_of_lt h1]
      rfl
    · intro n i _ hi _ hw
      refine pk_le 14 i (fun z => absurd z (by omega)) (fun _ => br_f ?_ (nm_r (nI_1 i) (nm_r (nI_1 i) (hw () trivial))))
      have h0 : c.natAbs ≠ 0 := fun e => by
        unfold jp_sz at hi
        rw [if_pos e] at hi
        omega
      have h3 := (jp_sz_ge h0).2
      have h4 : 2 ^ i ≤ 2 ^ (jp_sz c - 1) := Nat.pow_le_pow_right (by omega) (by omega)
      rw [jp_shr (by omega) (by omega)]
      have h5 : c.natAbs / 2 ^ i ≤ c.natAbs := Nat.div_le_self _ _
      exact nI_ne0 (Nat.div_pos (by omega) (Nat.two_pow_pos _)) (by omega)
  refine jp_ble 0 c (fun z => ?_) (fun z => nm_r (e' := nI c.natAbs) ?_ main)
  · rw [show jp_z c = nI c.natAbs by rw [← jp_zn]; exact congrArg jp_z (by omega)]
    exact main
  · rw [jp_zneg, ← jp_zn]
    exact congrArg jp_z (by omega)
theorem jq_symbolC {post : St2 → Prop} {f1 f2 f3 f4 f5 f7 f8 f9 f10 f11 : Int32} {a1 a2 a3 a4 a5 a6 a7 a8 a9 a10 a11 a12 a13 a14 a15 a16 : Nat → Int32} {a17 : Nat → Int64} {k : Nat} {v n : Int32} (hk : k < 272) (H : post (f1, f2, f3, f4, f5, 1, f7, f8, f9, f10, f11, a1, a2, a3, a4, a5, (upd a6 k (a6 k + 1)), a7, a8, a9, a10, a11, a12, a13, a14, a15, a16, a17)) : wpX_symbol post (f1, f2, f3, f4, f5, 1, f7, f8, f9, f10, f11, a1, a2, a3, a4, a5, a6, a7, a8, a9, a10, a11, a12, a13, a14, a15, a16, a17) (nI k) v n := by
  refine br_f (by decide) ⟨pk_in k 544 (by omega), pk_in k 544 (by omega), ?_⟩
  rw [nI_clamp (by omega)]
  exact nm_e H
theorem jp_mgv {c : Int} (hc : c.natAbs < 2 ^ 13) (h : c ≤ 0) : (jp_z c + ((1 : Int32) <<< (nI (jp_sz c) &&& 31))) - 1 = nI (jp_mg c) := by
  have h1 := jp_sz_lt c
  have h2 := jp_sz_le hc
  have h3 : 2 ^ jp_sz c ≤ 2 ^ 13 := Nat.pow_le_pow_right (by omega) h2
  have e2 : (1 : Int32) <<< (nI (jp_sz c) &&& 31) = nI (2 ^ jp_sz c) := by
    rw [show (1 : Int32) = nI 1 from rfl, jp_shl (by omega) (by omega), Nat.one_mul]
  rw [e2, ← jp_zn, show (1 : Int32) = jp_z 1 from rfl, jp_zadd, jp_zsub, ← jp_zn]
  refine congrArg jp_z ?_
  unfold jp_mg
  rw [if_neg (by omega)]
  omega
theorem jq_symbolW {post : St2 → Prop} {B : Nat → Nat} {p t k c l : Nat} {v : Int} {f1 f2 f3 f4 f5 f7 f8 f9 f10 f11 : Int32} {a1 a2 a3 a4 a5 a6 a7 a8 a9 a10 a11 a12 a13 a14 a15 a16 : Nat → Int32} {a17 : Nat → Int64} (hB : ∀ t, B t < 2) (hk : k < 272) (h8 : a8 k = nI c) (h4 : a4 k = nI l) (hc : c < 65536) (hl : l ≤ 16) (hv : v.natAbs < 2 ^ 13)
    (hb1 : ∀ i, i < l → B (t + i) = c / 2 ^ (l - 1 - i) % 2) (hb2 : ∀ i, i < jp_sz v → B (t + l + i) = jp_mg v / 2 ^ (jp_sz v - 1 - i) % 2) (hp : p + 2 * ((t + l + jp_sz v) / 8) + 2 ≤ 1900) (hw : jp_w B p t f5 f8 f9 a5)
    (H : ∀ len bb bc by_, jp_w B p (t + l + jp_sz v) len bb bc by_ → (∀ j, j < p → by_ j = a5 j) → post (f1, f2, f3, f4, len, 0, f7, bb, bc, f10, f11, a1, a2, a3, a4, by_, a6, a7, a8, a9, a10, a11, a12, a13, a14, a15, a16, a17)) :
    wpX_symbol post (f1, f2, f3, f4, f5, 0, f7, f8, f9, f10, f11, a1, a2, a3, a4, a5, a6, a7, a8, a9, a10, a11, a12, a13, a14, a15, a16, a17) (nI k) (jp_z v) (nI (jp_sz v)) := by
  have h1 := jp_sz_le hv
  have h2 := jp_mg_lt v
  have h3 : 2 ^ jp_sz v ≤ 2 ^ 13 := Nat.pow_le_pow_right (by omega) h1
  refine br_t rfl ⟨pk_in k 272 hk, pk_in k 272 hk, ?_⟩
  rw [nI_clamp (by omega), h8, h4]
  refine jq_putBits hB (by omega) (by omega) hb1 (by omega) hw (fun len bb bc by_ hw' hk' => ?_)
  refine jp_ble v 0 (fun z => ?_) (fun z => ?_)
  · rw [jp_mgv hv z]
    exact jq_putBits hB (by omega) (by omega) hb2 (by omega) hw' (fun len2 bb2 bc2 by2 hw2 hk2 => H len2 bb2 bc2 by2 hw2 (fun j hj => by rw [hk2 j hj, hk' j hj]))
  · rw [show jp_z v = nI (jp_mg v) by rw [← jp_zn]; refine congrArg jp_z ?_; unfold jp_mg; rw [if_pos z]; omega]
    exact jq_putBits hB (by omega) (by omega) hb2 (by omega) hw' (fun len2 bb2 bc2 by2 hw2 hk2 => H len2 bb2 bc2 by2 hw2 (fun j hj => by rw [hk2 j hj, hk' j hj]))
theorem jq_wb51 {post : St2 → Prop} {f1 f2 f3 f4 f5 f6 f7 f8 f9 f10 f11 : Int32} {a1 a2 a3 a4 a5 a6 a7 a8 a9 a10 a11 a12 a13 a14 a15 a16 : Nat → Int32} {a17 : Nat → Int64} {b : Nat} (hb : b < 4) (hz : ∀ k, 1 ≤ k → k < 64 → a13 (b * 64 + k) = 0) (ho : ∀ k, 1 ≤ k → k < 64 → ∃ o, 1 ≤ o ∧ o < 64 ∧ a3 k = nI o)
    (H : ∀ P : St2 → Prop, (∀ f1 f2 f3 f4 f5 f6 f7 f8 f9 f10 f11 a1 a2 a3 a4 a5 a6 a7 a8 a9 a10 a11 a12 a13 a14 a15 a16 a17, post (f1, f2, f3, f4, f5, f6, f7, f8, f9, f10, f11, a1, a2, a3, a4, a5, a6, a7, a8, a9, a10, a11, a12, a13, a14, a15, a16, a17) → P (f1, f2, f3, f4, f5, f6, f7, f8, f9, f10, f11, a1, a2, a3, a4, a5, a6, a7, a8, a9, a10, a11, a12, a13, a14, a15, a16, a17)) → wpX_symbol P (f1, f2, f3, f4, f5, f6, f7, f8, f9, f10, f11, a1, a2, a3, a4, a5, a6, a7, a8, a9, a10, a11, a12, a13, a14, a15, a16, a17) (nI 0) (jp_z 0) (nI (jp_sz 0))) : ∃ fu, wX_writeBlock_51 post (nI b) fu 0 1 f1 f2 f3 f4 f5 f6 f7 f8 f9 f10 f11 a1 a2 a3 a4 a5 a6 a7 a8 a9 a10 a11 a12 a13 a14 a15 a16 a17 := by
  refine pk_loop (σ := Unit) (fun n k _ => wX_writeBlock_51 post (nI b) n (nI (k - 1)) (nI k) f1 f2 f3 f4 f5 f6 f7 f8 f9 f10 f11 a1 a2 a3 a4 a5 a6 a7 a8 a9 a10 a11 a12 a13 a14 a15 a16 a17) (fun k _ => 1 ≤ k) 64 1 () (by omega) (by omega) ?_ ?_
  · intro n _ _
    refine pk_le 64 64 (fun _ => pk_le 63 0 (fun z => absurd z (by omega)) (fun _ => ?_)) (fun z => absurd z (by omega))
    exact H _ (fun f1 f2 f3 f4 f5 f6 f7 f8 f9 f10 f11 a1 a2 a3 a4 a5 a6 a7 a8 a9 a10 a11 a12 a13 a14 a15 a16 a17 h => h)
  · intro n k _ hk h1 hw
    obtain ⟨o, o1, o2, e3⟩ := ho k h1 hk
    refine pk_le 64 k (fun z => absurd z (by omega)) (fun _ => ⟨pk_in k 64 hk, ?_⟩)
    rw [nI_clamp (by omega), e3]
    refine ⟨pk_in (b * 64 + o) 256 (by omega) (jp_ix b 64 o), ?_⟩
    rw [jp_c64 (by omega), hz o o1 o2]
    refine nm_e (br_t rfl (nm_r (e' := nI (k + 1 - 1)) ?_ (nm_r (nI_1 k) (hw () (by omega)))))
    rw [nI_1]
    exact congrArg nI (by omega)
theorem jq_writeBlockC {post : St2 → Prop} {f1 f2 f3 f4 f5 f8 f9 f10 f11 : Int32} {a1 a2 a3 a4 a5 a6 a7 a8 a9 a10 a11 a12 a13 a14 a15 a16 : Nat → Int32} {a17 : Nat → Int64} {b : Nat} {l pr : Int} (hb : b < 4) (h0 : a13 (b * 64) = jp_z l) (hz : ∀ k, 1 ≤ k → k < 64 → a13 (b * 64 + k) = 0) (ho : ∀ k, 1 ≤ k → k < 64 → ∃ o, 1 ≤ o ∧ o < 64 ∧ a3 k = nI o) (hc : (l - pr).natAbs < 2 ^ 13)
    (H : post (f1, f2, f3, f4, f5, 1, (jp_z l), f8, f9, f10, f11, a1, a2, a3, a4, a5, (upd (upd a6 (256 + jp_sz (l - pr)) (a6 (256 + jp_sz (l - pr)) + 1)) 0 (upd a6 (256 + jp_sz (l - pr)) (a6 (256 + jp_sz (l - pr)) + 1) 0 + 1)), a7, a8, a9, a10, a11, a12, a13, a14, a15, a16, a17)) :
    wpX_writeBlock post (f1, f2, f3, f4, f5, 1, (jp_z pr), f8, f9, f10, f11, a1, a2, a3, a4, a5, a6, a7, a8, a9, a10, a11, a12, a13, a14, a15, a16, a17) (nI b) := by
  have h13 := jp_sz_le hc
  have e64 : nI b * 64 = nI (b * 64) := pk_mul b 64
  refine ⟨pk_in (b * 64) 256 (by omega) e64, ?_⟩
  rw [pk_cl (b * 64) e64, h0]
  refine nm_r (jp_zsub l pr) ⟨pk_in (b * 64) 256 (by omega) e64, nm_e (jq_sizeOf hc ?_)⟩
  rw [show (256 : Int32) + nI (jp_sz (l - pr)) = nI (256 + jp_sz (l - pr)) from nI_add 256 _]
  refine jq_symbolC (by omega) (jq_wb51 hb hz ho (fun P hP => jq_symbolC (by omega) (hP _ _ _ _ _ _ _ _ _ _ _ _ _ _ _ _ _ _ _ _ _ _ _ _ _ _ _ _ H)))
/-- the bits of a block: the size's code, the digits, the code of 'no more' -/
def jp_bb (c l m n c0 l0 i : Nat) : Nat := if i < l then c / 2 ^ (l - 1 - i) % 2 else if i < l + n then m / 2 ^ (n - 1 - (i - l)) % 2 else c0 / 2 ^ (l0 - 1 - (i - l - n)) % 2
theorem jp_bb_lt (c l m n c0 l0 i : Nat) : jp_bb c l m n c0 l0 i < 2 := by
  unfold jp_bb
  split
  · omega
  · split <;> omega
theorem jp_bb_1 {B : Nat → Nat} {t c l m n c0 l0 : Nat} (h : ∀ i, i < l + n + l0 → B (t + i) = jp_bb c l m n c0 l0 i) : ∀ i, i < l → B (t + i) = c / 2 ^ (l - 1 - i) % 2 := fun i hi => by
  rw [h i (by omega)]
  exact if_pos hi
theorem jp_bb_2 {B : Nat → Nat} {t c l m n c0 l0 : Nat} (h : ∀ i, i < l + n + l0 → B (t + i) = jp_bb c l m n c0 l0 i) : ∀ i, i < n → B (t + l + i) = m / 2 ^ (n - 1 - i) % 2 := fun i hi => by
  rw [Nat.add_assoc, h (l + i) (by omega)]
  unfold jp_bb
  rw [if_neg (by omega), if_pos (by omega), Nat.add_sub_cancel_left]
theorem jp_bb_3 {B : Nat → Nat} {t c l m n c0 l0 : Nat} (h : ∀ i, i < l + n + l0 → B (t + i) = jp_bb c l m n c0 l0 i) : ∀ i, i < l0 → B (t + l + n + i) = c0 / 2 ^ (l0 - 1 - i) % 2 := fun i hi => by
  rw [show t + l + n + i = t + (l + n + i) by omega, h (l + n + i) (by omega)]
  unfold jp_bb
  rw [if_neg (by omega), if_neg (by omega), show l + n + i - l - n = i by omega]
theorem jq_writeBlockW {post : St2 → Prop} {B : Nat → Nat} {p t c cl c0 l0 : Nat} {f1 f2 f3 f4 f5 f8 f9 f10 f11 : Int32} {a1 a2 a3 a4 a5 a6 a7 a8 a9 a10 a11 a12 a13 a14 a15 a16 : Nat → Int32} {a17 : Nat → Int64} {b : Nat} {l pr : Int} (hB : ∀ t, B t < 2) (hb : b < 4) (h0 : a13 (b * 64) = jp_z l) (hz : ∀ k, 1 ≤ k → k < 64 → a13 (b * 64 + k) = 0) (ho : ∀ k, 1 ≤ k → k < 64 → ∃ o, 1 ≤ o ∧ o < 64 ∧ a3 k = nI o) (hc : (l - pr).natAbs < 2 ^ 13)
    (h8 : a8 (256 + jp_sz (l - pr)) = nI c) (h4 : a4 (256 + jp_sz (l - pr)) = nI cl) (h80 : a8 0 = nI c0) (h40 : a4 0 = nI l0) (hc1 : c < 65536) (hcl : cl ≤ 16) (hc2 : c0 < 65536) (hl0 : l0 ≤ 16)
    (hbits : ∀ i, i < cl + jp_sz (l - pr) + l0 → B (t + i) = jp_bb c cl (jp_mg (l - pr)) (jp_sz (l - pr)) c0 l0 i) (hp : p + 2 * ((t + (cl + jp_sz (l - pr) + l0)) / 8) + 2 ≤ 1900) (hw : jp_w B p t f5 f8 f9 a5)
    (H : ∀ len bb bc by_, jp_w B p (t + (cl + jp_sz (l - pr) + l0)) len bb bc by_ → (∀ j, j < p → by_ j = a5 j) → post (f1, f2, f3, f4, len, 0, (jp_z l), bb, bc, f10, f11, a1, a2, a3, a4, by_, a6, a7, a8, a9, a10, a11, a12, a13, a14, a15, a16, a17)) :
    wpX_writeBlock post (f1, f2, f3, f4, f5, 0, (jp_z pr), f8, f9, f10, f11, a1, a2, a3, a4, a5, a6, a7, a8, a9, a10, a11, a12, a13, a14, a15, a16, a17) (nI b) := by
  have h13 := jp_sz_le hc
  have e64 : nI b * 64 = nI (b * 64) := pk_mul b 64
  refine ⟨pk_in (b * 64) 256 (by omega) e64, ?_⟩
  rw [pk_cl (b * 64) e64, h0]
  refine nm_r (jp_zsub l pr) ⟨pk_in (b * 64) 256 (by omega) e64, nm_e (jq_sizeOf hc ?_)⟩
  rw [show (256 : Int32) + nI (jp_sz (l - pr)) = nI (256 + jp_sz (l - pr)) from nI_add 256 _]
  refine jq_symbolW hB (by omega) h8 h4 hc1 hcl hc (jp_bb_1 hbits) (jp_bb_2 hbits) (by omega) hw (fun len bb bc by_ hw' hk' => ?_)
  refine jq_wb51 hb hz ho (fun P hP => ?_)
  refine jq_symbolW (v := 0) hB (by omega) h80 h40 hc2 hl0 (by decide) (jp_bb_3 hbits) (fun i hi => absurd hi (by rw [show jp_sz 0 = 0 from rfl]; omega)) ?_ hw' (fun len2 bb2 bc2 by2 hw2 hk2 => hP _ _ _ _ _ _ _ _ _ _ _ _ _ _ _ _ _ _ _ _ _ _ _ _ _ _ _ _ (H len2 bb2 bc2 by2 ?_ (fun j hj => by rw [hk2 j hj, hk' j hj])))
  · rw [show jp_sz 0 = 0 from rfl]
    omega
  · rw [show jp_sz 0 = 0 from rfl] at hw2
    rw [show t + (cl + jp_sz (l - pr) + l0) = t + cl + jp_sz (l - pr) + l0 + 0 by omega]
    exact hw2
theorem jq_es10 {post : St2 → Prop} {B : Nat → Nat} {p m sg : Nat} (hB : ∀ t, B t < 2) (hp : p + 2 * m + 2 ≤ 1900) : ∀ (k t i : Nat) {f1 f2 f3 f4 f5 f6 f7 f8 f9 f10 f11 : Int32} {a1 a2 a3 a4 a5 a6 a7 a8 a9 a10 a11 a12 a13 a14 a15 a16 : Nat → Int32} {a17 : Nat → Int64}, t + k = 8 * m → k ≤ 7 → i + k ≤ 7 → (∀ j, t ≤ j → B j = 1) → jp_w B p t f5 f8 f9 a5 →
    (∀ by_ : Nat → Int32, jp_laid B p m by_ → by_ (jp_ps B p m) = nI 255 → by_ (jp_ps B p m + 1) = nI (208 + sg) → (∀ j, j < p → by_ j = a5 j) → post (f1, f2, f3, f4, (nI (jp_ps B p m + 2)), f6, f7, 0, 0, f10, f11, a1, a2, a3, a4, by_, a6, a7, a8, a9, a10, a11, a12, a13, a14, a15, a16, a17)) →
    wX_endSegment_10 post (nI sg) (k + 1) (nI i) f1 f2 f3 f4 f5 f6 f7 f8 f9 f10 f11 a1 a2 a3 a4 a5 a6 a7 a8 a9 a10 a11 a12 a13 a14 a15 a16 a17 := by
  intro k
  induction k with
  | zero =>
    intro t i f1 f2 f3 f4 f5 f6 f7 f8 f9 f10 f11 a1 a2 a3 a4 a5 a6 a7 a8 a9 a10 a11 a12 a13 a14 a15 a16 a17 htk _ hi hb hw H
    obtain ⟨rfl, rfl, rfl, hl⟩ := hw
    have e1 : t / 8 = m := by omega
    have e2 : t % 8 = 0 := by omega
    rw [e1] at hl
    rw [e1, e2]
    have hps := jp_ps_le B p m
    refine pk_le 8 i (fun z => absurd z (by omega)) (fun _ => br_t rfl (jq_putByte (by omega) ?_))
    rw [show (208 : Int32) + nI sg = nI (208 + sg) from nI_add 208 sg]
    refine jq_putByte (by omega) (H _ ?_ ?_ ?_ ?_)
    · exact jp_laid_keep hl (fun j _ hj => by rw [pk_un (by omega), pk_un (by omega)])
    · rw [pk_un (by omega), pk_us]; rfl
    · rw [pk_us]
    · intro j hj
      rw [pk_un (by omega), pk_un (by omega)]
  | succ k ih =>
    intro t i f1 f2 f3 f4 f5 f6 f7 f8 f9 f10 f11 a1 a2 a3 a4 a5 a6 a7 a8 a9 a10 a11 a12 a13 a14 a15 a16 a17 htk hk7 hi hb hw H
    have hbc := hw.2.2.1
    refine pk_le 8 i (fun z => absurd z (by omega)) (fun _ => br_f ?_ (jq_putBits (v := 1) (n := 1) hB (by omega) (by omega) (fun j hj => ?_) (by omega) hw (fun len bb bc by_ hw' hk' => nm_r (nI_1 i) (ih (t + 1) (i + 1) (by omega) (by omega) (by omega) (fun j hj => hb j (by omega)) hw' (fun by2 q1 q2 q3 q4 => H by2 q1 q2 q3 (fun j hj => by rw [q4 j hj, hk' j hj]))))))
    · rw [hbc]
      exact nI_ne0 (by omega) (by omega)
    · rw [hb (t + j) (by omega), show j = 0 by omega]
theorem jq_endSegmentW {post : St2 → Prop} {B : Nat → Nat} {p t sg : Nat} {f1 f2 f3 f4 f5 f7 f8 f9 f10 f11 : Int32} {a1 a2 a3 a4 a5 a6 a7 a8 a9 a10 a11 a12 a13 a14 a15 a16 : Nat → Int32} {a17 : Nat → Int64} (hB : ∀ t, B t < 2) (hp : p + 2 * ((t + 7) / 8) + 2 ≤ 1900) (hb : ∀ j, t ≤ j → B j = 1) (hw : jp_w B p t f5 f8 f9 a5)
    (H : ∀ by_ : Nat → Int32, jp_laid B p ((t + 7) / 8) by_ → by_ (jp_ps B p ((t + 7) / 8)) = nI 255 → by_ (jp_ps B p ((t + 7) / 8) + 1) = nI (208 + sg) → (∀ j, j < p → by_ j = a5 j) → post (f1, f2, f3, f4, (nI (jp_ps B p ((t + 7) / 8) + 2)), 0, f7, 0, 0, f10, f11, a1, a2, a3, a4, by_, a6, a7, a8, a9, a10, a11, a12, a13, a14, a15, a16, a17)) :
    wpX_endSegment post (f1, f2, f3, f4, f5, 0, f7, f8, f9, f10, f11, a1, a2, a3, a4, a5, a6, a7, a8, a9, a10, a11, a12, a13, a14, a15, a16, a17) (nI sg) :=
  br_t rfl ⟨8 * ((t + 7) / 8) - t + 1, jq_es10 hB hp (8 * ((t + 7) / 8) - t) t 0 (by omega) (by omega) (by omega) hb hw H⟩
theorem jq_endSegmentC {post : St2 → Prop} {f1 f2 f3 f4 f5 f7 f8 f9 f10 f11 : Int32} {a1 a2 a3 a4 a5 a6 a7 a8 a9 a10 a11 a12 a13 a14 a15 a16 : Nat → Int32} {a17 : Nat → Int64} {sg : Int32} (H : post (f1, f2, f3, f4, f5, 1, f7, f8, f9, f10, f11, a1, a2, a3, a4, a5, a6, a7, a8, a9, a10, a11, a12, a13, a14, a15, a16, a17)) : wpX_endSegment post (f1, f2, f3, f4, f5, 1, f7, f8, f9, f10, f11, a1, a2, a3, a4, a5, a6, a7, a8, a9, a10, a11, a12, a13, a14, a15, a16, a17) sg := br_f (by decide) H
end
section
/-! the plan of the bytes: blocks in segments, segments in places -/
def jp_ch (r : Nat) (lv : Nat → Int) (b : Nat) : Int := lv b - (if b % r = 0 then 0 else lv (b - 1))
def jp_plan (r : Nat) (lv : Nat → Int) (cd cl : Nat → Nat) (c0 l0 : Nat) (B : Nat → Nat → Nat) (m T : Nat → Nat) : Prop :=
  (∀ s t, B s t < 2) ∧ (∀ s, s ≤ 3 / r → 1 ≤ m s ∧ m s ≤ 16) ∧
  (∀ b, b < 4 → ∀ i, i < cl b + jp_sz (jp_ch r lv b) + l0 → B (b / r) (T b + i) = jp_bb (cd b) (cl b) (jp_mg (jp_ch r lv b)) (jp_sz (jp_ch r lv b)) c0 l0 i) ∧
  (∀ b, b < 4 → T b + (cl b + jp_sz (jp_ch r lv b) + l0) ≤ 8 * m (b / r)) ∧
  (∀ b, b < 4 → b = 3 ∨ (b + 1) % r = 0 → (T b + (cl b + jp_sz (jp_ch r lv b) + l0) + 7) / 8 = m (b / r) ∧ ∀ t, T b + (cl b + jp_sz (jp_ch r lv b) + l0) ≤ t → B (b / r) t = 1) ∧
  (∀ b, b < 4 → b % r = 0 → T b = 0) ∧ (∀ b, b < 3 → ¬ (b + 1) % r = 0 → T (b + 1) = T b + (cl b + jp_sz (jp_ch r lv b) + l0))
def jp_T (r : Nat) (ln : Nat → Nat) : Nat → Nat
  | 0 => 0
  | b + 1 => if (b + 1) % r = 0 then 0 else jp_T r ln b + ln b
abbrev jp_in (r : Nat) (ln : Nat → Nat) (s t b : Nat) : Prop := b / r = s ∧ jp_T r ln b ≤ t ∧ t < jp_T r ln b + ln b
def jp_Bs (r : Nat) (ln : Nat → Nat) (bt : Nat → Nat → Nat) (s t : Nat) : Nat :=
  if jp_in r ln s t 0 then bt 0 (t - jp_T r ln 0) else if jp_in r ln s t 1 then bt 1 (t - jp_T r ln 1) else if jp_in r ln s t 2 then bt 2 (t - jp_T r ln 2) else if jp_in r ln s t 3 then bt 3 (t - jp_T r ln 3) else 1
theorem jp_T_s (r : Nat) (ln : Nat → Nat) (b : Nat) : jp_T r ln (b + 1) = if (b + 1) % r = 0 then 0 else jp_T r ln b + ln b := rfl
theorem jp_T_dis {r : Nat} (h1 : 1 ≤ r) (h2 : r ≤ 4) (ln : Nat → Nat) : ∀ b a, a < b → a / r = b / r → jp_T r ln a + ln a ≤ jp_T r ln b := by
  intro b
  induction b with
  | zero => intro a h; omega
  | succ b ih =>
    intro a hab e
    have e0 : ¬ (b + 1) % r = 0 ∧ (a < b → a / r = b / r) := by
      rcases (by omega : r = 1 ∨ r = 2 ∨ r = 3 ∨ r = 4) with rfl | rfl | rfl | rfl <;> omega
    rw [jp_T_s, if_neg e0.1]
    by_cases h : a = b
    · rw [h]; exact Nat.le_refl _
    · have := ih a (by omega) (e0.2 (by omega))
      omega
theorem jp_T_le {r : Nat} (ln : Nat → Nat) (hl : ∀ b, ln b ≤ 31) : ∀ b, jp_T r ln b ≤ 31 * b := by
  intro b
  induction b with
  | zero => exact Nat.le_refl _
  | succ b ih =>
    have := hl b
    rw [jp_T_s]
    split <;> omega
theorem jp_Bs_lt {r : Nat} {ln : Nat → Nat} {bt : Nat → Nat → Nat} (h : ∀ b i, bt b i < 2) (s t : Nat) : jp_Bs r ln bt s t < 2 := by
  unfold jp_Bs
  split
  · exact h _ _
  · split
    · exact h _ _
    · split
      · exact h _ _
      · split
        · exact h _ _
        · omega
theorem jp_Bs_at {r : Nat} (h1 : 1 ≤ r) (h2 : r ≤ 4) (ln : Nat → Nat) (bt : Nat → Nat → Nat) {b i : Nat} (hb : b < 4) (hi : i < ln b) : jp_Bs r ln bt (b / r) (jp_T r ln b + i) = bt b i := by
  have yes : jp_in r ln (b / r) (jp_T r ln b + i) b := ⟨rfl, by omega, by omega⟩
  have no : ∀ a, a < b → ¬ jp_in r ln (b / r) (jp_T r ln b + i) a := fun a ha z => by
    have := jp_T_dis h1 h2 ln b a ha z.1
    have := z.2.2
    omega
  unfold jp_Bs
  rcases (by omega : b = 0 ∨ b = 1 ∨ b = 2 ∨ b = 3) with rfl | rfl | rfl | rfl
  · rw [if_pos yes, Nat.add_sub_cancel_left]
  · rw [if_neg (no 0 (by omega)), if_pos yes, Nat.add_sub_cancel_left]
  · rw [if_neg (no 0 (by omega)), if_neg (no 1 (by omega)), if_pos yes, Nat.add_sub_cancel_left]
  · rw [if_neg (no 0 (by omega)), if_neg (no 1 (by omega)), if_neg (no 2 (by omega)), if_pos yes, Nat.add_sub_cancel_left]
theorem jp_Bs_pad {r : Nat} (h1 : 1 ≤ r) (h2 : r ≤ 4) (ln : Nat → Nat) (bt : Nat → Nat → Nat) {b t : Nat} (hb : b < 4) (he : b = 3 ∨ (b + 1) % r = 0) (ht : jp_T r ln b + ln b ≤ t) : jp_Bs r ln bt (b / r) t = 1 := by
  have no : ∀ a, a < 4 → ¬ jp_in r ln (b / r) t a := fun a ha z => by
    have z1 := z.1
    have z3 := z.2.2
    rcases (by omega : a < b ∨ a = b ∨ b < a) with h | h | h
    · have := jp_T_dis h1 h2 ln b a h z1
      omega
    · rw [h] at z3; omega
    · rcases (by omega : r = 1 ∨ r = 2 ∨ r = 3 ∨ r = 4) with rfl | rfl | rfl | rfl <;> omega
  unfold jp_Bs
  rw [if_neg (no 0 (by omega)), if_neg (no 1 (by omega)), if_neg (no 2 (by omega)), if_neg (no 3 (by omega))]
theorem jp_plan_ex {r : Nat} (h1 : 1 ≤ r) (h2 : r ≤ 4) {lv : Nat → Int} {cd cl : Nat → Nat} {c0 l0 : Nat} (hc : ∀ b, b < 4 → 1 ≤ cl b ∧ cl b ≤ 8) (hl0 : l0 ≤ 8) (hs : ∀ b, b < 4 → jp_sz (jp_ch r lv b) ≤ 13) : ∃ B m T, jp_plan r lv cd cl c0 l0 B m T := by
  obtain ⟨ln, hln⟩ : ∃ ln : Nat → Nat, ln = fun b => if b < 4 then cl b + jp_sz (jp_ch r lv b) + l0 else 0 := ⟨_, rfl⟩
  have el : ∀ b, b < 4 → cl b + jp_sz (jp_ch r lv b) + l0 = ln b := fun b hb => by rw [hln]; exact (if_pos hb).symm
  have hl : ∀ b, ln b ≤ 31 := fun b => by
    rw [hln]
    (try dsimp only)
    split
    · rename_i hb
      have := hc b hb
      have := hs b hb
      omega
    · omega
  have hl1 : ∀ b, b < 4 → 1 ≤ ln b := fun b hb => by
    rw [← el b hb]
    have := hc b hb
    omega
  have hT := jp_T_le (r := r) ln hl
  obtain ⟨bt, hbt⟩ : ∃ bt : Nat → Nat → Nat, bt = fun b => jp_bb (cd b) (cl b) (jp_mg (jp_ch r lv b)) (jp_sz (jp_ch r lv b)) c0 l0 := ⟨_, rfl⟩
  -- the last block of segment s
  have hE : ∀ b, b < 4 → min 3 (b / r * r + r - 1) < 4 ∧ min 3 (b / r * r + r - 1) / r = b / r ∧ b ≤ min 3 (b / r * r + r - 1) ∧ (b = 3 ∨ (b + 1) % r = 0 → min 3 (b / r * r + r - 1) = b) := fun b hb => by
    rcases (by omega : r = 1 ∨ r = 2 ∨ r = 3 ∨ r = 4) with rfl | rfl | rfl | rfl <;> omega
  refine ⟨jp_Bs r ln bt, fun s => (jp_T r ln (min 3 (s * r + r - 1)) + ln (min 3 (s * r + r - 1)) + 7) / 8, jp_T r ln, jp_Bs_lt (fun b i => by rw [hbt]; exact jp_bb_lt _ _ _ _ _ _ _), fun s _ => ?_, fun b hb i hi => ?_, fun b hb => ?_, fun b hb he => ?_, fun b hb he => ?_, fun b hb he => ?_⟩
  · have q1 := hT (min 3 (s * r + r - 1))
    have q2 := hl (min 3 (s * r + r - 1))
    have q3 := hl1 (min 3 (s * r + r - 1)) (by omega)
    (try dsimp only)
    have : min 3 (s * r + r - 1) ≤ 3 := Nat.min_le_left _ _
    omega
  · rw [el b hb] at hi
    rw [jp_Bs_at h1 h2 ln bt hb hi, hbt]
  · rw [el b hb]
    obtain ⟨e1, e2, e3, e4⟩ := hE b hb
    (try dsimp only)
    by_cases h : b = min 3 (b / r * r + r - 1)
    · rw [← h]; omega
    · have := jp_T_dis h1 h2 ln _ b (by omega) e2.symm
      omega
  · rw [el b hb]
    obtain ⟨e1, e2, e3, e4⟩ := hE b hb
    (try dsimp only)
    refine ⟨?_, fun t ht => jp_Bs_pad h1 h2 ln bt hb he ht⟩
    rw [e4 he]
  · rcases b with _ | b
    · rfl
    · rw [jp_T_s, if_pos he]
  · rw [el b (by omega), jp_T_s, if_neg he]
/-- where segment s begins; where its mark stands -/
def jp_P (B : Nat → Nat → Nat) (m : Nat → Nat) (gone : Nat → Bool) : Nat → Nat
  | 0 => 0
  | s + 1 => (if gone s = true then jp_P B m gone s else jp_ps (B s) (jp_P B m gone s) (m s)) + 2
def jp_E (B : Nat → Nat → Nat) (m : Nat → Nat) (gone : Nat → Bool) (s : Nat) : Nat := if gone s = true then jp_P B m gone s else jp_ps (B s) (jp_P B m gone s) (m s)
theorem jp_P_s (B : Nat → Nat → Nat) (m : Nat → Nat) (gone : Nat → Bool) (s : Nat) : jp_P B m gone (s + 1) = jp_E B m gone s + 2 := rfl
theorem jp_E_le {B : Nat → Nat → Nat} {m : Nat → Nat} {gone : Nat → Bool} {s : Nat} (h : m s ≤ 16) : jp_P B m gone s ≤ jp_E B m gone s ∧ jp_E B m gone s ≤ jp_P B m gone s + 32 := by
  have := jp_ps_le (B s) (jp_P B m gone s) (m s)
  unfold jp_E
  split <;> omega
theorem jp_P_le {B : Nat → Nat → Nat} {m : Nat → Nat} {gone : Nat → Bool} {n : Nat} (h : ∀ s, s ≤ n → m s ≤ 16) : ∀ s, s ≤ n + 1 → jp_P B m gone s ≤ 34 * s := by
  intro s
  induction s with
  | zero => intro _; exact Nat.le_refl _
  | succ s ih =>
    intro hs
    have := jp_E_le (B := B) (gone := gone) (h s (by omega))
    have := ih (by omega)
    rw [jp_P_s]
    omega
theorem jp_P_mono {B : Nat → Nat → Nat} {m : Nat → Nat} {gone : Nat → Bool} {n : Nat} (h : ∀ s, s ≤ n → m s ≤ 16) {a : Nat} : ∀ b, a ≤ b → b ≤ n + 1 → jp_P B m gone a + 2 * (b - a) ≤ jp_P B m gone b := by
  intro b
  induction b with
  | zero => intro hab _; rw [show a = 0 by omega]; exact Nat.le_refl _
  | succ b ih =>
    intro hab hb
    by_cases e : a = b + 1
    · rw [e]; omega
    · have h1 := ih (by omega) (by omega)
      have h2 := jp_E_le (B := B) (gone := gone) (h b (by omega))
      rw [jp_P_s]
      omega
def jp_seg (B : Nat → Nat → Nat) (m : Nat → Nat) (gone : Nat → Bool) (a5 : Nat → Int32) (s : Nat) : Prop :=
  (gone s = false → jp_laid (B s) (jp_P B m gone s) (m s) a5) ∧ a5 (jp_E B m gone s) = nI 255 ∧ a5 (jp_E B m gone s + 1) = nI (208 + s)
theorem jp_seg_keep {B : Nat → Nat → Nat} {m : Nat → Nat} {gone : Nat → Bool} {a5 b5 : Nat → Int32} {s : Nat} (hm : m s ≤ 16) (h : jp_seg B m gone a5 s) (hk : ∀ j, jp_P B m gone s ≤ j → j < jp_P B m gone (s + 1) → b5 j = a5 j) : jp_seg B m gone b5 s := by
  have hE := jp_E_le (B := B) (gone := gone) hm
  rw [jp_P_s] at hk
  refine ⟨fun e => jp_laid_keep (h.1 e) (fun j j1 j2 => hk j j1 ?_), ?_, ?_⟩
  · have e2 : jp_E B m gone s = jp_ps (B s) (jp_P B m gone s) (m s) := by
      unfold jp_E
      rw [e]
      rfl
    omega
  · rw [hk _ (by omega) (by omega)]; exact h.2.1
  · rw [hk _ (by omega) (by omega)]; exact h.2.2
/-! counting over blocks -/
def jp_sg (r b : Nat) : Nat := if b = 0 then 0 else (b - 1) / r
def jp_is (r b : Nat) : Nat := if b = 0 then 0 else (b - 1) % r + 1
theorem jp_sg_s (r b : Nat) : jp_sg r (b + 1) = b / r := by
  unfold jp_sg
  rw [if_neg (by omega), Nat.add_sub_cancel]
theorem jp_is_s (r b : Nat) : jp_is r (b + 1) = b % r + 1 := by
  unfold jp_is
  rw [if_neg (by omega), Nat.add_sub_cancel]
theorem jp_is_r {r b : Nat} (h1 : 1 ≤ r) (h2 : r ≤ 4) (hb : b ≤ 4) : (jp_is r b = r → 1 ≤ b ∧ b % r = 0 ∧ b / r = jp_sg r b + 1) ∧ (¬ jp_is r b = r → jp_is r b = b % r ∧ b / r = jp_sg r b ∧ (b = 0 ∨ ¬ b % r = 0)) ∧ jp_is r b ≤ r := by
  unfold jp_is jp_sg
  by_cases e : b = 0
  · rw [if_pos e, if_pos e]
    rcases (by omega : r = 1 ∨ r = 2 ∨ r = 3 ∨ r = 4) with rfl | rfl | rfl | rfl <;> omega
  · rw [if_neg e, if_neg e]
    rcases (by omega : r = 1 ∨ r = 2 ∨ r = 3 ∨ r = 4) with rfl | rfl | rfl | rfl <;> omega
theorem jp_seg_le {r b : Nat} (h1 : 1 ≤ r) (h2 : r ≤ 4) (hb : b < 4) : b / r ≤ 3 / r ∧ 3 / r ≤ 3 := by
  rcases (by omega : r = 1 ∨ r = 2 ∨ r = 3 ∨ r = 4) with rfl | rfl | rfl | rfl <;> omega
def jp_tt (T ln : Nat → Nat) (b : Nat) : Nat := if b = 0 then 0 else T (b - 1) + ln (b - 1)
def jp_pr (lv : Nat → Int) (b : Nat) : Int := if b = 0 then 0 else lv (b - 1)
theorem jp_tt_s (T ln : Nat → Nat) (b : Nat) : jp_tt T ln (b + 1) = T b + ln b := by
  unfold jp_tt
  rw [if_neg (by omega), Nat.add_sub_cancel]
theorem jp_pr_s (lv : Nat → Int) (b : Nat) : jp_pr lv (b + 1) = lv b := by
  unfold jp_pr
  rw [if_neg (by omega), Nat.add_sub_cancel]
end
section
/-! walks: writeAll, counting and writing -/
def jp_wc (s : Nat → Nat) : Nat → Nat → Nat
  | 0, _ => 0
  | b + 1, k => jp_wc s b k + (if k = s b then 1 else 0) + (if k = 0 then 1 else 0)
def jp_flat (lv : Nat → Int) (a13 : Nat → Int32) : Prop := ∀ b, b < 4 → ∀ k, k < 64 → a13 (b * 64 + k) = if k = 0 then jp_z (lv b) else 0
theorem jp_flat_0 {lv : Nat → Int} {a13 : Nat → Int32} (h : jp_flat lv a13) {b : Nat} (hb : b < 4) : a13 (b * 64) = jp_z (lv b) := by
  have := h b hb 0 (by omega)
  rw [if_pos rfl] at this
  exact this
theorem jp_flat_z {lv : Nat → Int} {a13 : Nat → Int32} (h : jp_flat lv a13) {b : Nat} (hb : b < 4) : ∀ k, 1 ≤ k → k < 64 → a13 (b * 64 + k) = 0 := fun k k1 k2 => by
  rw [h b hb k k2, if_neg (by omega)]
theorem jq_writeAllC {post : St2 → Prop} {f1 f2 f3 f5 f6 f7 f8 f9 f10 f11 : Int32} {a1 a2 a3 a4 a5 a6 a7 a8 a9 a10 a11 a12 a13 a14 a15 a16 : Nat → Int32} {a17 : Nat → Int64} {r : Nat} {lv : Nat → Int} (r1 : 1 ≤ r) (r4 : r ≤ 4) (hlv : jp_flat lv a13) (ho : ∀ k, 1 ≤ k → k < 64 → ∃ o, 1 ≤ o ∧ o < 64 ∧ a3 k = nI o) (hch : ∀ b, b < 4 → (jp_ch r lv b).natAbs < 2 ^ 13) (h0 : ∀ k, k < 272 → a6 k = nI 0)
    (H : ∀ (t7 : Int32) (t6 : Nat → Int32), (∀ k, k < 272 → t6 k = nI (jp_wc (fun b => 256 + jp_sz (jp_ch r lv b)) 4 k)) → post (f1, f2, f3, (nI r), f5, 1, t7, f8, f9, f10, f11, a1, a2, a3, a4, a5, t6, a7, a8, a9, a10, a11, a12, a13, a14, a15, a16, a17)) : wpX_writeAll post (f1, f2, f3, (nI r), f5, f6, f7, f8, f9, f10, f11, a1, a2, a3, a4, a5, a6, a7, a8, a9, a10, a11, a12, a13, a14, a15, a16, a17) 1 := by
  refine ⟨rfl, rfl, Exists.elim (pk_loop (fun n b (s : Int32 × (Nat → Int32)) => wX_writeAll_17 post n (nI (jp_sg r b)) (nI (jp_is r b)) (nI b) f1 f2 f3 (nI r) f5 1 s.1 f8 f9 f10 f11 a1 a2 a3 a4 a5 s.2 a7 a8 a9 a10 a11 a12 a13 a14 a15 a16 a17) (fun b s => s.1 = jp_z (jp_pr lv b) ∧ ∀ k, k < 272 → s.2 k = nI (jp_wc (fun b => 256 + jp_sz (jp_ch r lv b)) b k)) 4 0 (0, a6) (by omega) ⟨rfl, h0⟩ ?_ ?_) (fun fu h => ⟨fu, h⟩)⟩
  · intro n s h
    exact pk_le 4 4 (fun _ => jq_endSegmentC (H _ _ h.2)) (fun z => absurd z (by omega))
  · intro n b s hb h hw
    obtain ⟨i1, i2, i3⟩ := jp_is_r r1 r4 (show b ≤ 4 by omega)
    have hcb := hch b hb
    have h13 := jp_sz_le hcb
    have K : ∀ x2 x3 : Int32, x2 = nI (b / r) → x3 = nI (b % r) → wX_writeAll_46 post (wX_writeAll_17 post n) x2 x3 (nI b) f1 f2 f3 (nI r) f5 1 (jp_z (if b % r = 0 then 0 else lv (b - 1))) f8 f9 f10 f11 a1 a2 a3 a4 a5 s.2 a7 a8 a9 a10 a11 a12 a13 a14 a15 a16 a17 := by
      intro x2 x3 e2 e3
      subst e2 e3
      refine jq_writeBlockC (l := lv b) hb (jp_flat_0 hlv hb) (jp_flat_z hlv hb) ho hcb (nm_r (nI_1 (b % r)) (nm_r (nI_1 b) ?_))
      have W := hw (jp_z (lv b), upd (upd s.2 (256 + jp_sz (jp_ch r lv b)) (s.2 (256 + jp_sz (jp_ch r lv b)) + 1)) 0 (upd s.2 (256 + jp_sz (jp_ch r lv b)) (s.2 (256 + jp_sz (jp_ch r lv b)) + 1) 0 + 1)) ⟨by rw [jp_pr_s], fun k hk => ?_⟩
      · rw [jp_sg_s, jp_is_s] at W
        exact W
      · show upd (upd s.2 (256 + jp_sz (jp_ch r lv b)) (s.2 (256 + jp_sz (jp_ch r lv b)) + 1)) 0 (upd s.2 (256 + jp_sz (jp_ch r lv b)) (s.2 (256 + jp_sz (jp_ch r lv b)) + 1) 0 + 1) k = nI (jp_wc (fun b => 256 + jp_sz (jp_ch r lv b)) b k + (if k = 256 + jp_sz (jp_ch r lv b) then 1 else 0) + (if k = 0 then 1 else 0))
        by_cases e0 : k = 0
        · rw [e0, pk_us, pk_un (by omega), h.2 0 (by omega), nI_1, if_neg (by omega), if_pos rfl]
        · rw [pk_un e0, if_neg e0]
          by_cases e1 : k = 256 + jp_sz (jp_ch r lv b)
          · rw [← e1, pk_us, h.2 k hk, nI_1, if_pos rfl]
          · rw [pk_un e1, h.2 k hk, if_neg e1]
            rfl
    refine pk_le 4 b (fun z => absurd z (by omega)) (fun _ => pk_eq (jp_is r b) r (fun z => jq_endSegmentC (nm_r (nI_1 _) ?_)) (fun z => ?_))
    · obtain ⟨j1, j2, j3⟩ := i1 z
      have K' := K (nI (jp_sg r b + 1)) 0 (by rw [j3]) (by rw [j2]; rfl)
      rw [if_pos j2] at K'
      exact K'
    · obtain ⟨j1, j2, j3⟩ := i2 z
      have K' := K (nI (jp_sg r b)) (nI (jp_is r b)) (by rw [j2]) (by rw [j1])
      have e7 : s.1 = jp_z (if b % r = 0 then 0 else lv (b - 1)) := by
        rw [h.1]
        unfold jp_pr
        by_cases e : b = 0
        · rw [if_pos e, if_pos (by rw [e]; exact Nat.zero_mod r)]
        · rw [if_neg e, if_neg (by omega)]
      rw [← e7] at K'
      exact K'
theorem jq_writeAllW {post : St2 → Prop} {f1 f2 f3 f6 f7 f10 f11 : Int32} {a1 a2 a3 a4 a5 a6 a7 a8 a9 a10 a11 a12 a13 a14 a15 a16 : Nat → Int32} {a17 : Nat → Int64} {r c0 l0 : Nat} {lv : Nat → Int} {cd cl : Nat → Nat} {B : Nat → Nat → Nat} {m T : Nat → Nat} (r1 : 1 ≤ r) (r4 : r ≤ 4) (hpl : jp_plan r lv cd cl c0 l0 B m T) (hlv : jp_flat lv a13) (ho : ∀ k, 1 ≤ k → k < 64 → ∃ o, 1 ≤ o ∧ o < 64 ∧ a3 k = nI o) (hch : ∀ b, b < 4 → (jp_ch r lv b).natAbs < 2 ^ 13)
    (hcd : ∀ b, b < 4 → a8 (256 + jp_sz (jp_ch r lv b)) = nI (cd b) ∧ a4 (256 + jp_sz (jp_ch r lv b)) = nI (cl b) ∧ cd b < 65536 ∧ cl b ≤ 16) (h80 : a8 0 = nI c0) (h40 : a4 0 = nI l0) (hc0 : c0 < 65536) (hl0 : l0 ≤ 16)
    (H : ∀ (t7 : Int32) (t5 : Nat → Int32), (∀ s, s ≤ 3 / r → jp_seg B m (fun _ => false) t5 s) → post (f1, f2, f3, (nI r), (nI (jp_P B m (fun _ => false) (3 / r + 1))), 0, t7, 0, 0, f10, f11, a1, a2, a3, a4, t5, a6, a7, a8, a9, a10, a11, a12, a13, a14, a15, a16, a17)) : wpX_writeAll post (f1, f2, f3, (nI r), 0, f6, f7, 0, 0, f10, f11, a1, a2, a3, a4, a5, a6, a7, a8, a9, a10, a11, a12, a13, a14, a15, a16, a17) 0 := by
  obtain ⟨p1, p2, p3, p4, p5, p6, p7⟩ := hpl
  have hm : ∀ s, s ≤ 3 / r → m s ≤ 16 := fun s hs => (p2 s hs).2
  have hP := jp_P_le (B := B) (m := m) (gone := fun _ => false) (n := 3 / r) hm
  have hlast : ∀ s, jp_E B m (fun _ => false) s = jp_ps (B s) (jp_P B m (fun _ => false) s) (m s) := fun s => rfl
  -- the end of a segment: its last block is b
  have fin : ∀ (b : Nat) (s : Int32 × Int32 × Int32 × Int32 × (Nat → Int32)), b < 4 → (b = 3 ∨ (b + 1) % r = 0) → jp_w (B (b / r)) (jp_P B m (fun _ => false) (b / r)) (T b + (cl b + jp_sz (jp_ch r lv b) + l0)) s.1 s.2.2.1 s.2.2.2.1 s.2.2.2.2 → (∀ i, i < b / r → jp_seg B m (fun _ => false) s.2.2.2.2 i) →
      ∀ P : St2 → Prop, (∀ t5 : Nat → Int32, (∀ i, i ≤ b / r → jp_seg B m (fun _ => false) t5 i) → P (f1, f2, f3, (nI r), (nI (jp_P B m (fun _ => false) (b / r + 1))), 0, s.2.1, 0, 0, f10, f11, a1, a2, a3, a4, t5, a6, a7, a8, a9, a10, a11, a12, a13, a14, a15, a16, a17)) → wpX_endSegment P (f1, f2, f3, (nI r), s.1, 0, s.2.1, s.2.2.1, s.2.2.2.1, f10, f11, a1, a2, a3, a4, s.2.2.2.2, a6, a7, a8, a9, a10, a11, a12, a13, a14, a15, a16, a17) (nI (b / r)) := by
    intro b s hb he hw hs P HP
    obtain ⟨s1, s2⟩ := jp_seg_le r1 r4 hb
    obtain ⟨q1, q2⟩ := p5 b hb he
    have hPb := hP (b / r) (by omega)
    have hmb := hm (b / r) s1
    refine jq_endSegmentW (p1 _) (by omega) q2 hw (fun by_ g1 g2 g3 g4 => ?_)
    rw [q1] at g1 g2 g3
    rw [q1]
    refine HP by_ (fun i hi => ?_)
    by_cases e : i = b / r
    · rw [e]
      exact ⟨fun _ => g1, g2, g3⟩
    · refine jp_seg_keep (hm i (by omega)) (hs i (by omega)) (fun j j1 j2 => g4 j ?_)
      have := jp_P_mono (B := B) (gone := fun _ => false) hm (a := i + 1) (b / r) (by omega) (by omega)
      omega
  refine ⟨rfl, rfl, Exists.elim (pk_loop (fun n b (s : Int32 × Int32 × Int32 × Int32 × (Nat → Int32)) => wX_writeAll_17 post n (nI (jp_sg r b)) (nI (jp_is r b)) (nI b) f1 f2 f3 (nI r) s.1 0 s.2.1 s.2.2.1 s.2.2.2.1 f10 f11 a1 a2 a3 a4 s.2.2.2.2 a6 a7 a8 a9 a10 a11 a12 a13 a14 a15 a16 a17) (fun b s => s.2.1 = jp_z (jp_pr lv b) ∧ jp_w (B (jp_sg r b)) (jp_P B m (fun _ => false) (jp_sg r b)) (jp_tt T (fun b => cl b + jp_sz (jp_ch r lv b) + l0) b) s.1 s.2.2.1 s.2.2.2.1 s.2.2.2.2 ∧ ∀ i, i < jp_sg r b → jp_seg B m (fun _ => false) s.2.2.2.2 i) 4 0 (0, 0, 0, 0, a5) (by omega) ⟨rfl, jp_w0 (B 0) 0, fun i hi => absurd hi (Nat.not_lt_zero i)⟩ ?_ ?_) (fun fu h => ⟨fu, h⟩)⟩
  · intro n s h
    obtain ⟨_, h2, h3⟩ := h
    rw [jp_sg_s] at h2 h3
    rw [jp_tt_s] at h2
    refine pk_le 4 4 (fun _ => ?_) (fun z => absurd z (by omega))
    have F := fun P HP => fin 3 s (by omega) (Or.inl rfl) h2 h3 P HP
    rw [jp_sg_s]
    exact F _ (fun t5 g => H _ _ g)
  · intro n b s hb h hw
    obtain ⟨i1, i2, i3⟩ := jp_is_r r1 r4 (show b ≤ 4 by omega)
    obtain ⟨h1, h2, h3⟩ := h
    have hcb := hch b hb
    have h13 := jp_sz_le hcb
    obtain ⟨s1, s2⟩ := jp_seg_le r1 r4 hb
    have hPb := hP (b / r) (by omega)
    have hmb := hm (b / r) s1
    obtain ⟨c8, c4, cc, ccl⟩ := hcd b hb
    have K : ∀ (x2 x3 : Int32) (s : Int32 × Int32 × Int32 × Int32 × (Nat → Int32)), x2 = nI (b / r) → x3 = nI (b % r) → s.2.1 = jp_z (if b % r = 0 then 0 else lv (b - 1)) → jp_w (B (b / r)) (jp_P B m (fun _ => false) (b / r)) (T b) s.1 s.2.2.1 s.2.2.2.1 s.2.2.2.2 → (∀ i, i < b / r → jp_seg B m (fun _ => false) s.2.2.2.2 i) →
        wX_writeAll_46 post (wX_writeAll_17 post n) x2 x3 (nI b) f1 f2 f3 (nI r) s.1 0 s.2.1 s.2.2.1 s.2.2.2.1 f10 f11 a1 a2 a3 a4 s.2.2.2.2 a6 a7 a8 a9 a10 a11 a12 a13 a14 a15 a16 a17 := by
      intro x2 x3 s e2 e3 e7 g1 g2
      subst e2 e3
      rw [e7]
      have hfit := p4 b hb
      refine jq_writeBlockW (l := lv b) (p1 (b / r)) hb (jp_flat_0 hlv hb) (jp_flat_z hlv hb) ho hcb c8 c4 h80 h40 cc ccl hc0 hl0 (p3 b hb) ?_ g1 (fun len bb bc by_ w1 w2 => nm_r (nI_1 (b % r)) (nm_r (nI_1 b) ?_))
      · show jp_P B m (fun _ => false) (b / r) + 2 * ((T b + (cl b + jp_sz (jp_ch r lv b) + l0)) / 8) + 2 ≤ 1900
        omega
      · have W := hw (len, jp_z (lv b), bb, bc, by_) ⟨by rw [jp_pr_s], ?_, ?_⟩
        · rw [jp_sg_s, jp_is_s] at W
          exact W
        · rw [jp_sg_s, jp_tt_s]
          exact w1
        · rw [jp_sg_s]
          intro i hi
          refine jp_seg_keep (hm i (by omega)) (g2 i hi) (fun j j1 j2 => w2 j ?_)
          have := jp_P_mono (B := B) (gone := fun _ => false) hm (a := i + 1) (b / r) (by omega) (by omega)
          omega
    refine pk_le 4 b (fun z => absurd z (by omega)) (fun _ => pk_eq (jp_is r b) r (fun z => ?_) (fun z => ?_))
    · obtain ⟨j1, j2, j3⟩ := i1 z
      obtain ⟨a, rfl⟩ : ∃ a, b = a + 1 := ⟨b - 1, by omega⟩
      rw [jp_sg_s] at h2 h3 j3
      rw [jp_tt_s] at h2
      rw [jp_sg_s]
      refine fin a s (by omega) (Or.inr j2) h2 h3 _ (fun t5 g => nm_r (nI_1 _) ?_)
      have K' := K (nI (a / r + 1)) 0 (nI (jp_P B m (fun _ => false) (a / r + 1)), 0, 0, 0, t5) (by rw [j3]) (by rw [j2]; rfl) (by rw [if_pos j2]; rfl) ?_ (fun i hi => g i (by omega))
      · exact K'
      · rw [p6 (a + 1) hb j2, j3]
        exact jp_w0 _ _
    · obtain ⟨j1, j2, j3⟩ := i2 z
      refine K (nI (jp_sg r b)) (nI (jp_is r b)) s (by rw [j2]) (by rw [j1]) ?_ ?_ ?_
      · rw [h1]
        unfold jp_pr
        by_cases e : b = 0
        · rw [if_pos e, if_pos (by rw [e]; exact Nat.zero_mod r)]
        · rw [if_neg e, if_neg (by omega)]
      · rw [j2]
        have et : jp_tt T (fun b => cl b + jp_sz (jp_ch r lv b) + l0) b = T b := by
          rcases b with _ | a
          · exact (p6 0 (by omega) (Nat.zero_mod r)).symm
          · rw [jp_tt_s]
            exact (p7 a (by omega) (by omega)).symm
        rw [et] at h2
        exact h2
      · rw [j2]
        exact h3
end
section
/-! walks: reading blocks, decode -/
theorem jq_readBlock {post : St2 → Prop} {B : Nat → Nat} {p m t L b c cl c0 l0 : Nat} {ch pr : Int} {f1 f2 f3 f4 f6 f8 f9 f10 f11 : Int32} {a1 a2 a3 a4 a5 a6 a7 a8 a9 a10 a11 a12 a13 a14 a15 a16 : Nat → Int32} {a17 : Nat → Int64} (hB : ∀ t, B t < 2) (hl : jp_laid B p m a5) (hb : b < 4) (hch : ch.natAbs < 2 ^ 13) (hd1 : jp_dc 272 a9 a10 a11 a12 1 (256 + jp_sz ch) c cl) (hd0 : jp_dc 272 a9 a10 a11 a12 0 0 c0 l0)
    (hbits : ∀ i, i < cl + jp_sz ch + l0 → B (t + i) = jp_bb c cl (jp_mg ch) (jp_sz ch) c0 l0 i) (ht : t + (cl + jp_sz ch + l0) ≤ 8 * m) (hL : jp_ps B p m ≤ L) (hL2 : L ≤ 1900) (hr : jp_r B p t f10 f8 f9)
    (H : ∀ ra bb bc, jp_r B p (t + (cl + jp_sz ch + l0)) ra bb bc → post (f1, f2, f3, f4, (nI L), f6, (jp_z (pr + ch)), bb, bc, ra, f11, a1, a2, a3, a4, a5, a6, a7, a8, a9, a10, a11, a12, (upd a13 (b * 64) (jp_z (pr + ch))), a14, a15, a16, a17)) : wpX_readBlock post (f1, f2, f3, f4, (nI L), f6, (jp_z pr), f8, f9, f10, f11, a1, a2, a3, a4, a5, a6, a7, a8, a9, a10, a11, a12, a13, a14, a15, a16, a17) (nI b) := by
  have h13 := jp_sz_le hch
  have e64 : nI b * 64 = nI (b * 64) := pk_mul b 64
  refine jq_getSymbol (tb := 1) hB hl hd1 (by omega) (jp_bb_1 hbits) (by omega) hL hL2 hr (fun ra1 bb1 bc1 hr1 => ?_)
  have e15 : ((nI (256 + jp_sz ch) - 256) &&& 15) = nI (jp_sz ch) := by
    rw [show nI (256 + jp_sz ch) - 256 = nI (256 + jp_sz ch - 256) from pk_sub (a := 256 + jp_sz ch) (b := 256) (by omega), Nat.add_sub_cancel_left, pk_andN (by omega) 4 (by decide)]
    exact congrArg nI (by omega)
  rw [e15]
  refine jq_getValue hB hl (by omega) (jp_bb_2 hbits) (jp_mg_lt ch) (by omega) hL hL2 hr1 (fun ra2 bb2 bc2 hr2 => ?_)
  rw [jp_dv_mg]
  refine nm_r (jp_zadd pr ch) ⟨pk_in (b * 64) 256 (by omega) e64, ?_⟩
  rw [pk_cl (b * 64) e64]
  refine nm_e ⟨1, pk_le 64 0 (fun z => absurd z (by omega)) (fun _ => pk_le 64 1 (fun z => absurd z (by omega)) (fun _ => ?_))⟩
  refine jq_getSymbol (tb := 0) hB hl hd0 (by omega) (jp_bb_3 hbits) (by omega) hL hL2 hr2 (fun ra3 bb3 bc3 hr3 => br_t rfl (H ra3 bb3 bc3 ?_))
  rw [show t + (cl + jp_sz ch + l0) = t + cl + jp_sz ch + l0 by omega]
  exact hr3
theorem jq_markAt {post : Int32 → Prop} {f1 f2 f3 f4 f6 f7 f8 f9 f10 f11 : Int32} {a1 a2 a3 a4 a5 a6 a7 a8 a9 a10 a11 a12 a13 a14 a15 a16 : Nat → Int32} {a17 : Nat → Int64} {L at_ x y : Nat} (h1 : at_ + 1 < L) (hL : L ≤ 1900) (hx : a5 at_ = nI x) (hy : x = 255 → a5 (at_ + 1) = nI y) (hx2 : x < 256) (hy2 : y < 256) (H : post (if x = 255 ∧ 208 ≤ y then 1 else 0)) : wpX_markAt post (f1, f2, f3, f4, (nI L), f6, f7, f8, f9, f10, f11, a1, a2, a3, a4, a5, a6, a7, a8, a9, a10, a11, a12, a13, a14, a15, a16, a17) (nI at_) := by
  refine pk_le L (at_ + 1) (fun z => absurd z (by omega)) (fun _ => ⟨pk_in at_ 1900 (by omega), ?_⟩) rfl (nI_1 at_)
  rw [nI_clamp (by omega), hx]
  refine pk_eq x 255 (fun e => ⟨pk_in (at_ + 1) 1900 (by omega) (nI_1 at_), ?_⟩) (fun e => ?_)
  · rw [pk_cl (at_ + 1) (nI_1 at_), hy e]
    refine pk_lt y 208 (fun z => ?_) (fun z => ?_)
    · rw [if_neg (by omega)] at H
      exact H
    · rw [if_pos ⟨e, z⟩] at H
      exact H
  · rw [if_neg (fun z => e z.1)] at H
    exact H
theorem jp_seg_first {B : Nat → Nat → Nat} {m : Nat → Nat} {gone : Nat → Bool} {a5 : Nat → Int32} {s : Nat} (hB : ∀ t, B s t < 2) (hm : 1 ≤ m s) (hs : s ≤ 3) (h : jp_seg B m gone a5 s) :
    ∃ x y, a5 (jp_P B m gone s) = nI x ∧ (x = 255 → a5 (jp_P B m gone s + 1) = nI y) ∧ x < 256 ∧ y < 256 ∧ ((x = 255 ∧ 208 ≤ y) ↔ gone s = true) := by
  obtain ⟨h1, h2, h3⟩ := h
  by_cases g : gone s = true
  · have e : jp_E B m gone s = jp_P B m gone s := if_pos g
    rw [e] at h2 h3
    exact ⟨255, 208 + s, h2, fun _ => h3, by omega, by omega, ⟨fun _ => g, fun _ => ⟨rfl, by omega⟩⟩⟩
  · have hl := h1 (by simpa using g) 0 (by omega)
    have := jp_bv_lt hB 0
    exact ⟨jp_bv (B s) 0, 0, hl.1, hl.2, this, by omega, ⟨fun z => absurd z.2 (by omega), fun z => absurd z g⟩⟩
theorem jq_markSeg {post : Int32 → Prop} {f1 f2 f3 f4 f6 f7 f8 f9 f10 f11 : Int32} {a1 a2 a3 a4 a5 a6 a7 a8 a9 a10 a11 a12 a13 a14 a15 a16 : Nat → Int32} {a17 : Nat → Int64} {B : Nat → Nat → Nat} {m : Nat → Nat} {gone : Nat → Bool} {s n : Nat} (hn : n ≤ 3) (hB : ∀ s t, B s t < 2) (hm : ∀ s, s ≤ n → 1 ≤ m s ∧ m s ≤ 16) (hs : s ≤ n) (h : jp_seg B m gone a5 s) (H : post (if gone s = true then 1 else 0)) : wpX_markAt post (f1, f2, f3, f4, (nI (jp_P B m gone (n + 1))), f6, f7, f8, f9, f10, f11, a1, a2, a3, a4, a5, a6, a7, a8, a9, a10, a11, a12, a13, a14, a15, a16, a17) (nI (jp_P B m gone s)) := by
  obtain ⟨x, y, q1, q2, q3, q4, q5⟩ := jp_seg_first (hB s) (hm s hs).1 (by omega) h
  have hm' : ∀ s, s ≤ n → m s ≤ 16 := fun s hs => (hm s hs).2
  have := jp_P_mono (B := B) (gone := gone) hm' (a := s) (n + 1) (by omega) (by omega)
  have := jp_P_le (B := B) (gone := gone) hm' (n + 1) (by omega)
  refine jq_markAt (by omega) (by omega) q1 q2 q3 q4 ?_
  by_cases g : gone s = true
  · rw [if_pos (q5.mpr g)]
    rw [if_pos g] at H
    exact H
  · rw [if_neg (fun z => g (q5.mp z))]
    rw [if_neg g] at H
    exact H
def jp_L (r : Nat) (lv : Nat → Int) (gone : Nat → Bool) (b : Nat) : Int := if gone (b / r) = true then 0 else lv b
def jp_shown (L : Nat → Int) (q : Nat) (a14 : Nat → Int32) (n : Nat) : Prop := ∀ b, b < n → ∀ j i, j < 8 → i < 8 → a14 (jp_co b + j * 16 + i) = jp_z (jp_due (L b) q)
theorem jp_co_ne {a b j i j' i' : Nat} (h : a ≠ b) (ha : a < 4) (hb : b < 4) (h1 : j < 8) (h2 : i < 8) (h3 : j' < 8) (h4 : i' < 8) : jp_co a + j * 16 + i ≠ jp_co b + j' * 16 + i' := by
  unfold jp_co
  omega
theorem jq_dec121 {post : St2 → Prop} {f1 f2 f4 f5 f6 f7 f8 f9 f10 f11 : Int32} {a1 a2 a3 a4 a5 a6 a7 a8 a9 a10 a11 a12 a13 a14 a15 a16 : Nat → Int32} {a17 : Nat → Int64} {q : Nat} {L : Nat → Int} (hq : ∀ j, j < 9 → a2 j = jp_qt j) (hq2 : q ≤ 8) (hL : ∀ b, b < 4 → -4096 ≤ L b ∧ L b ≤ 4096) (hf : jp_flat L a13)
    (H : ∀ (t14 : Nat → Int32) (t17 : Nat → Int64), jp_shown L q t14 4 → post (f1, f2, (nI q), f4, f5, f6, f7, f8, f9, f10, 1, a1, a2, a3, a4, a5, a6, a7, a8, a9, a10, a11, a12, a13, t14, a15, a16, t17)) : ∃ fu, wX_decode_121 post fu 0 f1 f2 (nI q) f4 f5 f6 f7 f8 f9 f10 f11 a1 a2 a3 a4 a5 a6 a7 a8 a9 a10 a11 a12 a13 a14 a15 a16 a17 := by
  refine pk_loop (fun n b (s : (Nat → Int32) × (Nat → Int64)) => wX_decode_121 post n (nI b) f1 f2 (nI q) f4 f5 f6 f7 f8 f9 f10 f11 a1 a2 a3 a4 a5 a6 a7 a8 a9 a10 a11 a12 a13 s.1 a15 a16 s.2) (fun b s => jp_shown L q s.1 b) 4 0 (a14, a17) (by omega) (fun b hb => absurd hb (Nat.not_lt_zero b)) ?_ ?_
  · intro n s h
    exact pk_le 4 4 (fun _ => H s.1 s.2 h) (fun z => absurd z (by omega))
  · intro n b s hb h hw
    refine pk_le 4 b (fun z => absurd z (by omega)) (fun _ => jq_showBlock hq hb (hL b hb).1 (hL b hb).2 hq2 (hf b hb) (fun t t17 g1 g2 => nm_r (nI_1 b) (hw (t, t17) (fun a ha j i hj hi => ?_))))
    show t (jp_co a + j * 16 + i) = _
    by_cases e : a = b
    · rw [e]
      exact g1 j i hj hi
    · rw [g2 _ (fun j' i' hj' hi' => jp_co_ne e (by omega) hb hj hi hj' hi')]
      exact h a (by omega) j i hj hi
/-- what the code rows are, for reading -/
def jp_rd (r : Nat) (lv : Nat → Int) (cd cl : Nat → Nat) (c0 l0 : Nat) (a9 a10 a11 a12 : Nat → Int32) : Prop :=
  (∀ b, b < 4 → jp_dc 272 a9 a10 a11 a12 1 (256 + jp_sz (jp_ch r lv b)) (cd b) (cl b)) ∧ jp_dc 272 a9 a10 a11 a12 0 0 c0 l0
theorem jq_dec58 {post : St2 → Prop} {f1 f2 f6 f8 f11 : Int32} {a1 a2 a3 a4 a5 a6 a7 a8 a9 a10 a11 a12 a13 a14 a15 a16 : Nat → Int32} {a17 : Nat → Int64} {r q c0 l0 : Nat} {lv : Nat → Int} {cd cl : Nat → Nat} {B : Nat → Nat → Nat} {m T : Nat → Nat} {gone : Nat → Bool} (r1 : 1 ≤ r) (r4 : r ≤ 4) (hpl : jp_plan r lv cd cl c0 l0 B m T) (hrd : jp_rd r lv cd cl c0 l0 a9 a10 a11 a12) (hch : ∀ b, b < 4 → (jp_ch r lv b).natAbs < 2 ^ 13)
    (hlay : ∀ s, s ≤ 3 / r → jp_seg B m gone a5 s) (hq : ∀ j, j < 9 → a2 j = jp_qt j) (hq2 : q ≤ 8) (hL : ∀ b, b < 4 → -4096 ≤ jp_L r lv gone b ∧ jp_L r lv gone b ≤ 4096) (h13 : ∀ k, k < 256 → a13 k = 0)
    (H : ∀ (t7 t8 t9 t10 : Int32) (t13 t14 : Nat → Int32) (t17 : Nat → Int64), jp_flat (jp_L r lv gone) t13 → jp_shown (jp_L r lv gone) q t14 4 → post (f1, f2, (nI q), (nI r), (nI (jp_P B m gone (3 / r + 1))), f6, t7, t8, t9, t10, 1, a1, a2, a3, a4, a5, a6, a7, a8, a9, a10, a11, a12, t13, t14, a15, a16, t17)) :
    ∃ fu, wX_decode_58 post fu (nI r) (if gone 0 = true then 1 else 0) 0 f1 f2 (nI q) (nI r) (nI (jp_P B m gone (3 / r + 1))) f6 0 f8 0 0 f11 a1 a2 a3 a4 a5 a6 a7 a8 a9 a10 a11 a12 a13 a14 a15 a16 a17 := by
  obtain ⟨p1, p2, p3, p4, p5, p6, p7⟩ := hpl
  have hm : ∀ s, s ≤ 3 / r → m s ≤ 16 := fun s hs => (p2 s hs).2
  have hP := jp_P_le (B := B) (m := m) (gone := gone) (n := 3 / r) hm
  have hS := (jp_seg_le r1 r4 (show 0 < 4 by omega)).2
  refine Exists.elim (pk_loop (fun n b (s : Int32 × Int32 × Int32 × Int32 × (Nat → Int32)) => wX_decode_58 post n (nI (r - jp_is r b)) (if gone (jp_sg r b) = true then 1 else 0) (nI b) f1 f2 (nI q) (nI r) (nI (jp_P B m gone (3 / r + 1))) f6 s.1 s.2.1 s.2.2.1 s.2.2.2.1 f11 a1 a2 a3 a4 a5 a6 a7 a8 a9 a10 a11 a12 s.2.2.2.2 a14 a15 a16 a17)
    (fun b s => (gone (jp_sg r b) = false → s.1 = jp_z (jp_pr lv b) ∧ jp_r (B (jp_sg r b)) (jp_P B m gone (jp_sg r b)) (jp_tt T (fun b => cl b + jp_sz (jp_ch r lv b) + l0) b) s.2.2.2.1 s.2.1 s.2.2.1) ∧ (gone (jp_sg r b) = true → s.2.2.2.1 = nI (jp_P B m gone (jp_sg r b))) ∧ ∀ a, a < 4 → ∀ k, k < 64 → s.2.2.2.2 (a * 64 + k) = if k = 0 ∧ a < b then jp_z (jp_L r lv gone a) else 0) 4 0 (0, f8, 0, 0, a13) (by omega) ⟨fun _ => ⟨rfl, jp_r0 (B 0) 0⟩, fun _ => rfl, fun a ha k hk => ?_⟩ ?_ ?_) (fun fu h => ⟨fu, h⟩)
  · show a13 (a * 64 + k) = _
    rw [h13 _ (by omega), if_neg (by omega)]
  · intro n s h
    refine pk_le 4 4 (fun _ => jq_dec121 hq hq2 hL (fun b hb k hk => ?_) (fun t14 t17 g => H _ _ _ _ _ _ _ (fun b hb k hk => ?_) g)) (fun z => absurd z (by omega))
    · rw [h.2.2 b hb k hk]
      by_cases e : k = 0
      · rw [if_pos ⟨e, hb⟩, if_pos e]
      · rw [if_neg (fun z => e z.1), if_neg e]
    · rw [h.2.2 b hb k hk]
      by_cases e : k = 0
      · rw [if_pos ⟨e, hb⟩, if_pos e]
      · rw [if_neg (fun z => e z.1), if_neg e]
  · intro n b s hb h hw
    obtain ⟨i1, i2, i3⟩ := jp_is_r r1 r4 (show b ≤ 4 by omega)
    obtain ⟨h1, h2, h3⟩ := h
    obtain ⟨s1, s2⟩ := jp_seg_le r1 r4 hb
    have hPb := hP (b / r) (by omega)
    have hmb := hm (b / r) s1
    have hbr : b % r < r := Nat.mod_lt _ (by omega)
    have K : ∀ (x1 x2 : Int32) (s : Int32 × Int32 × Int32 × Int32 × (Nat → Int32)), x1 = nI (r - b % r) → x2 = (if gone (b / r) = true then 1 else 0) → (gone (b / r) = false → s.1 = jp_z (if b % r = 0 then 0 else lv (b - 1)) ∧ jp_r (B (b / r)) (jp_P B m gone (b / r)) (T b) s.2.2.2.1 s.2.1 s.2.2.1) → (gone (b / r) = true → s.2.2.2.1 = nI (jp_P B m gone (b / r))) → (∀ a, a < 4 → ∀ k, k < 64 → s.2.2.2.2 (a * 64 + k) = if k = 0 ∧ a < b then jp_z (jp_L r lv gone a) else 0) →
        wX_decode_101 post (wX_decode_58 post n) x1 x2 (nI b) f1 f2 (nI q) (nI r) (nI (jp_P B m gone (3 / r + 1))) f6 s.1 s.2.1 s.2.2.1 s.2.2.2.1 f11 a1 a2 a3 a4 a5 a6 a7 a8 a9 a10 a11 a12 s.2.2.2.2 a14 a15 a16 a17 := by
      intro x1 x2 s e1 e2 g1 g2 g3
      subst e1 e2
      have ed : nI (r - b % r) + (-1) = nI (r - (b % r + 1)) := by
        rw [show r - b % r = r - (b % r + 1) + 1 by omega, pk_m1]
      by_cases g : gone (b / r) = true
      · rw [if_pos g]
        refine br_f (by decide) (nm_r ed (nm_r (nI_1 b) ?_))
        have W := hw s ⟨?_, ?_, fun a ha k hk => ?_⟩
        · rw [jp_sg_s, jp_is_s, if_pos g] at W
          exact W
        · rw [jp_sg_s, g]
          intro z
          exact absurd z (by decide)
        · rw [jp_sg_s]
          exact g2
        · rw [g3 a ha k hk]
          by_cases e : k = 0 ∧ a = b
          · rw [if_neg (by omega), if_pos (by omega)]
            unfold jp_L
            rw [e.2, if_pos g]
            rfl
          · by_cases e' : k = 0 ∧ a < b
            · rw [if_pos e', if_pos (by omega)]
            · rw [if_neg e', if_neg (by omega)]
      · have gf : gone (b / r) = false := by simpa using g
        obtain ⟨g7, gr⟩ := g1 gf
        rw [if_neg g, g7]
        have hlb := (hlay (b / r) s1).1 gf
        have hE : jp_ps (B (b / r)) (jp_P B m gone (b / r)) (m (b / r)) ≤ jp_P B m gone (3 / r + 1) := by
          have q1 := jp_P_mono (B := B) (gone := gone) hm (a := b / r + 1) (3 / r + 1) (by omega) (by omega)
          have q2 : jp_E B m gone (b / r) = jp_ps (B (b / r)) (jp_P B m gone (b / r)) (m (b / r)) := if_neg g
          rw [jp_P_s, q2] at q1
          omega
        have hPn := hP (3 / r + 1) (by omega)
        refine br_t rfl (jq_readBlock (p1 (b / r)) hlb hb (hch b hb) (hrd.1 b hb) hrd.2 (p3 b hb) (p4 b hb) hE (by omega) gr (fun ra bb bc hr' => nm_r ed (nm_r (nI_1 b) ?_)))
        have ev : (if b % r = 0 then 0 else lv (b - 1)) + jp_ch r lv b = lv b := by
          unfold jp_ch
          omega
        rw [ev]
        have W := hw (jp_z (lv b), bb, bc, ra, upd s.2.2.2.2 (b * 64) (jp_z (lv b))) ⟨fun _ => ⟨by rw [jp_pr_s], ?_⟩, ?_, fun a ha k hk => ?_⟩
        · rw [jp_sg_s, jp_is_s, if_neg g] at W
          exact W
        · rw [jp_sg_s, jp_tt_s]
          exact hr'
        · rw [jp_sg_s, gf]
          intro z
          exact absurd z (by decide)
        · show upd s.2.2.2.2 (b * 64) (jp_z (lv b)) (a * 64 + k) = _
          by_cases e : k = 0 ∧ a = b
          · rw [e.1, e.2, Nat.add_zero, pk_us, if_pos (by omega)]
            unfold jp_L
            rw [if_neg g]
          · rw [pk_un (by omega), g3 a ha k hk]
            by_cases e' : k = 0 ∧ a < b
            · rw [if_pos e', if_pos (by omega)]
            · rw [if_neg e', if_neg (by omega)]
    refine pk_le 4 b (fun z => absurd z (by omega)) (fun _ => pk_eq (r - jp_is r b) 0 (fun z => ?_) (fun z => ?_))
    · obtain ⟨j1, j2, j3⟩ := i1 (by omega)
      obtain ⟨a, rfl⟩ : ∃ a, b = a + 1 := ⟨b - 1, by omega⟩
      rw [jp_sg_s] at h1 h2 j3
      rw [jp_tt_s] at h1
      have eE : s.2.2.2.1 = nI (jp_E B m gone (a / r)) := by
        unfold jp_E
        by_cases g : gone (a / r) = true
        · rw [if_pos g]; exact h2 g
        · rw [if_neg g]
          have q := (h1 (by simpa using g)).2.1
          rw [(p5 a (by omega) (Or.inr j2)).1] at q
          exact q
      have eR : s.2.2.2.1 + 2 = nI (jp_P B m gone ((a + 1) / r)) := by
        rw [eE, j3, jp_P_s]
        exact nI_add _ 2
      refine nm_r eR (jq_markSeg hS p1 p2 s1 (hlay _ s1) ?_)
      refine K (nI r) _ (0, s.2.1, 0, nI (jp_P B m gone ((a + 1) / r)), s.2.2.2.2) (by rw [j2, Nat.sub_zero]) rfl (fun _ => ⟨by rw [if_pos j2]; rfl, ?_⟩) (fun _ => rfl) h3
      rw [p6 (a + 1) hb j2]
      exact jp_r0 _ _
    · obtain ⟨j1, j2, j3⟩ := i2 (by omega)
      refine K (nI (r - jp_is r b)) (if gone (jp_sg r b) = true then 1 else 0) s (by rw [j1]) (by rw [j2]) ?_ (by rw [j2]; exact h2) h3
      rw [j2]
      intro g
      obtain ⟨g1, g2⟩ := h1 g
      refine ⟨?_, ?_⟩
      · rw [g1]
        unfold jp_pr
        by_cases e : b = 0
        · rw [if_pos e, if_pos (by rw [e]; exact Nat.zero_mod r)]
        · rw [if_neg e, if_neg (by omega)]
      · have et : jp_tt T (fun b => cl b + jp_sz (jp_ch r lv b) + l0) b = T b := by
          rcases b with _ | a
          · exact (p6 0 (by omega) (Nat.zero_mod r)).symm
          · rw [jp_tt_s]
            exact (p7 a (by omega) (by omega)).symm
        rw [et] at g2
        exact g2
def jp_ok (r q : Nat) (lv : Nat → Int) (B : Nat → Nat → Nat) (m : Nat → Nat) (gone : Nat → Bool) (f11 : Int32) (a5 a13 a14 : Nat → Int32) : Prop :=
  (∀ s, s ≤ 3 / r → jp_seg B m gone a5 s) ∧ (f11 = 0 ∨ (f11 = 1 ∧ jp_flat (jp_L r lv gone) a13 ∧ jp_shown (jp_L r lv gone) q a14 4))
/-- what stays the same once stored -/
def jp_env (r q : Nat) (lv : Nat → Int) (cd cl : Nat → Nat) (c0 l0 : Nat) (B : Nat → Nat → Nat) (m T : Nat → Nat) (a2 a9 a10 a11 a12 : Nat → Int32) : Prop :=
  1 ≤ r ∧ r ≤ 4 ∧ 1 ≤ q ∧ q ≤ 8 ∧ jp_plan r lv cd cl c0 l0 B m T ∧ jp_rd r lv cd cl c0 l0 a9 a10 a11 a12 ∧ (∀ b, b < 4 → (jp_ch r lv b).natAbs < 2 ^ 13) ∧ (∀ b, b < 4 → -4096 ≤ lv b ∧ lv b ≤ 4096) ∧ (∀ j, j < 9 → a2 j = jp_qt j)
theorem jp_L_in {r : Nat} {lv : Nat → Int} (h : ∀ b, b < 4 → -4096 ≤ lv b ∧ lv b ≤ 4096) (gone : Nat → Bool) : ∀ b, b < 4 → -4096 ≤ jp_L r lv gone b ∧ jp_L r lv gone b ≤ 4096 := fun b hb => by
  have := h b hb
  unfold jp_L
  split <;> omega
theorem jq_decode {post : St2 → Prop} {f1 f2 f6 f7 f8 f9 f10 f11 : Int32} {a1 a2 a3 a4 a5 a6 a7 a8 a9 a10 a11 a12 a13 a14 a15 a16 : Nat → Int32} {a17 : Nat → Int64} {r q c0 l0 : Nat} {lv : Nat → Int} {cd cl : Nat → Nat} {B : Nat → Nat → Nat} {m T : Nat → Nat} {gone : Nat → Bool} (he : jp_env r q lv cd cl c0 l0 B m T a2 a9 a10 a11 a12) (hok : jp_ok r q lv B m gone f11 a5 a13 a14)
    (H : ∀ (t7 t8 t9 t10 : Int32) (t13 t14 : Nat → Int32) (t17 : Nat → Int64), jp_flat (jp_L r lv gone) t13 → jp_shown (jp_L r lv gone) q t14 4 → post (f1, f2, (nI q), (nI r), (nI (jp_P B m gone (3 / r + 1))), f6, t7, t8, t9, t10, 1, a1, a2, a3, a4, a5, a6, a7, a8, a9, a10, a11, a12, t13, t14, a15, a16, t17)) :
    wpX_decode post (f1, f2, (nI q), (nI r), (nI (jp_P B m gone (3 / r + 1))), f6, f7, f8, f9, f10, f11, a1, a2, a3, a4, a5, a6, a7, a8, a9, a10, a11, a12, a13, a14, a15, a16, a17) := by
  obtain ⟨r1, r4, q1, q8, hpl, hrd, hch, hlv, hq⟩ := he
  obtain ⟨hlay, hd⟩ := hok
  rcases hd with rfl | ⟨rfl, g1, g2⟩
  · refine br_t rfl (pk_loop (fun n k (t : Nat → Int32) => wX_decode_10 post f1 f2 (nI q) (nI r) (nI (jp_P B m gone (3 / r + 1))) f6 f7 f8 f9 f10 0 n (nI k) a1 a2 a3 a4 a5 a6 a7 a8 a9 a10 a11 a12 t a14 a15 a16 a17) (fun k t => ∀ j, j < k → t j = 0) 256 0 a13 (by omega) (fun j h => absurd h (by omega)) ?_ ?_)
    · intro n t h
      refine pk_le 256 256 (fun _ => ?_) (fun z => absurd z (by omega))
      exact jq_markSeg (s := 0) (jp_seg_le r1 r4 (show 0 < 4 by omega)).2 hpl.1 hpl.2.1 (Nat.zero_le _) (hlay 0 (Nat.zero_le _)) (jq_dec58 r1 r4 hpl hrd hch hlay hq q8 (jp_L_in hlv gone) h H)
    · intro n k t hk h hw
      refine pk_le 256 k (fun z => absurd z (by omega)) (fun _ => ⟨pk_in k 256 hk, ?_⟩)
      rw [nI_clamp (by omega)]
      refine nm_e (nm_r (nI_1 k) (hw _ (fun j hj => ?_)))
      by_cases e : j = k
      · rw [e, pk_us]
      · rw [pk_un e]; exact h j (by omega)
  · exact br_f (by decide) (H _ _ _ _ _ _ _ g1 g2)
end
section
/-! walks: weight, segmentOf, lose -/
theorem jq_weight {post : Int32 → St2 → Prop} {f1 f2 f6 f7 f8 f9 f10 f11 : Int32} {a1 a2 a3 a4 a5 a6 a7 a8 a9 a10 a11 a12 a13 a14 a15 a16 : Nat → Int32} {a17 : Nat → Int64} {r q c0 l0 b : Nat} {lv : Nat → Int} {cd cl : Nat → Nat} {B : Nat → Nat → Nat} {m T : Nat → Nat} {gone : Nat → Bool} (he : jp_env r q lv cd cl c0 l0 B m T a2 a9 a10 a11 a12) (hok : jp_ok r q lv B m gone f11 a5 a13 a14) (hb : b < 4)
    (H : ∀ (t7 t8 t9 t10 : Int32) (t13 t14 : Nat → Int32) (t17 : Nat → Int64), jp_flat (jp_L r lv gone) t13 → jp_shown (jp_L r lv gone) q t14 4 → post (nI (if jp_L r lv gone b = 0 then 0 else 1)) (f1, f2, (nI q), (nI r), (nI (jp_P B m gone (3 / r + 1))), f6, t7, t8, t9, t10, 1, a1, a2, a3, a4, a5, a6, a7, a8, a9, a10, a11, a12, t13, t14, a15, a16, t17)) :
    wpX_weight post (f1, f2, (nI q), (nI r), (nI (jp_P B m gone (3 / r + 1))), f6, f7, f8, f9, f10, f11, a1, a2, a3, a4, a5, a6, a7, a8, a9, a10, a11, a12, a13, a14, a15, a16, a17) (nI b) := by
  have hLb := jp_L_in he.2.2.2.2.2.2.2.1 gone b hb (r := r)
  refine br_f (nI_pos (by omega)) (pk_le b 3 (fun _ => jq_decode he hok (fun t7 t8 t9 t10 t13 t14 t17 g1 g2 => ?_)) (fun z => absurd z (by omega)))
  have h := H t7 t8 t9 t10 t13 t14 t17 g1 g2
  refine Exists.elim (pk_loop (σ := Unit) (fun n k _ => wX_weight_20 post (nI b) f1 f2 (nI q) (nI r) (nI (jp_P B m gone (3 / r + 1))) f6 t7 t8 t9 t10 1 a1 a2 a3 a4 a5 a6 a7 a8 a9 a10 a11 a12 t13 t14 a15 a16 t17 n (nI (if k = 0 then 0 else if jp_L r lv gone b = 0 then 0 else 1)) (nI k)) (fun _ _ => True) 64 0 () (by omega) trivial ?_ ?_) (fun fu h => ⟨fu, h⟩)
  · intro n _ _
    refine pk_le 64 64 (fun _ => ?_) (fun z => absurd z (by omega))
    rw [if_neg (show ¬ 64 = 0 by omega)]
    exact h
  · intro n k _ hk _ hw
    have W := hw () trivial
    rw [if_neg (show ¬ k + 1 = 0 by omega)] at W
    refine pk_le 64 k (fun z => absurd z (by omega)) (fun _ => ⟨pk_in (b * 64 + k) 256 (by omega) (jp_ix b 64 k), ?_⟩)
    rw [jp_c64 (by omega), g1 b hb k hk]
    by_cases e : k = 0
    · rw [if_pos e, if_pos e]
      refine jp_beq (jp_L r lv gone b) 0 (fun z => nm_r (nI_1 k) ?_) (fun z => nm_r (nI_1 0) (nm_r (nI_1 k) ?_))
      · rw [if_pos z] at W
        exact W
      · rw [if_neg z] at W
        exact W
    · rw [if_neg e, if_neg e]
      exact br_t rfl (nm_r (nI_1 k) W)
theorem jq_segmentOf {post : Int32 → Prop} {f1 f2 f3 f5 f6 f7 f8 f9 f10 f11 : Int32} {a1 a2 a3 a4 a5 a6 a7 a8 a9 a10 a11 a12 a13 a14 a15 a16 : Nat → Int32} {a17 : Nat → Int64} {r b : Nat} (r1 : 1 ≤ r) (r4 : r ≤ 4) (hb : b < 4) (H : post (nI (b / r))) : wpX_segmentOf post (f1, f2, f3, (nI r), f5, f6, f7, f8, f9, f10, f11, a1, a2, a3, a4, a5, a6, a7, a8, a9, a10, a11, a12, a13, a14, a15, a16, a17) (nI b) := by
  have hbr := jp_seg_le r1 r4 hb
  refine Exists.elim (pk_loop (σ := Unit) (fun n i _ => wX_segmentOf_4 post (nI b) f1 f2 f3 (nI r) f5 f6 f7 f8 f9 f10 f11 a1 a2 a3 a4 a5 a6 a7 a8 a9 a10 a11 a12 a13 a14 a15 a16 a17 n (nI (min i (b / r))) (nI i)) (fun _ _ => True) 4 0 () (by omega) trivial ?_ ?_) (fun fu h => ⟨fu, ?_⟩)
  · intro n _ _
    refine pk_le 4 4 (fun _ => ?_) (fun z => absurd z (by omega))
    rw [show min 4 (b / r) = b / r by omega]
    exact H
  · intro n i _ hi _ hw
    have W := hw () trivial
    have e : (nI (min i (b / r)) + 1) * nI r = nI ((min i (b / r) + 1) * r) := by rw [nI_1, pk_mul]
    have hf : (b < (min i (b / r) + 1) * r → min (i + 1) (b / r) = min i (b / r)) ∧ ((min i (b / r) + 1) * r ≤ b → min (i + 1) (b / r) = min i (b / r) + 1) ∧ (min i (b / r) + 1) * r ≤ 16 := by
      rcases (by omega : r = 1 ∨ r = 2 ∨ r = 3 ∨ r = 4) with rfl | rfl | rfl | rfl <;> omega
    refine pk_le 4 i (fun z => absurd z (by omega)) (fun _ => pk_lt b ((min i (b / r) + 1) * r) (fun z => nm_r (nI_1 i) ?_) (fun z => nm_r (nI_1 _) (nm_r (nI_1 i) ?_)) rfl e)
    · rw [hf.1 z] at W
      exact W
    · rw [hf.2.1 z] at W
      exact W
  · rw [Nat.zero_min] at h
    exact h
def jp_go (gone : Nat → Bool) (s : Nat) : Nat → Bool := fun i => gone i || i == s
def jp_lc (r : Nat) (L : Nat → Int) (s : Nat) : Nat → Nat
  | 0 => 0
  | k + 1 => jp_lc r L s k + (if k / r = s then (if L k = 0 then 0 else 1) else 0)
theorem jp_go_y (gone : Nat → Bool) (s : Nat) : jp_go gone s s = true := by
  unfold jp_go
  simp
theorem jp_go_n (gone : Nat → Bool) {s i : Nat} (h : i ≠ s) : jp_go gone s i = gone i := by
  unfold jp_go
  simp [h]
/-- places before and behind the lost segment -/
theorem jp_go_P {B : Nat → Nat → Nat} {m : Nat → Nat} {gone : Nat → Bool} {s : Nat} (hm : m s ≤ 16) : (∀ i, i ≤ s → jp_P B m (jp_go gone s) i = jp_P B m gone i) ∧ (∀ i, s < i → jp_P B m (jp_go gone s) i + (jp_E B m gone s - jp_P B m gone s) = jp_P B m gone i) := by
  have h1 : ∀ i, i ≤ s → jp_P B m (jp_go gone s) i = jp_P B m gone i := by
    intro i
    induction i with
    | zero => intro _; rfl
    | succ i ih =>
      intro hi
      rw [jp_P_s, jp_P_s]
      unfold jp_E
      rw [jp_go_n gone (by omega), ih (by omega)]
  refine ⟨h1, ?_⟩
  intro i
  induction i with
  | zero => intro h; omega
  | succ i ih =>
    intro hi
    by_cases e : i = s
    · have hE := jp_E_le (B := B) (gone := gone) hm
      rw [e, jp_P_s, jp_P_s]
      have e2 : jp_E B m (jp_go gone s) s = jp_P B m gone s := by
        unfold jp_E
        rw [if_pos (jp_go_y gone s)]
        exact h1 s (Nat.le_refl s)
      rw [e2]
      omega
    · have q := ih (by omega)
      rw [jp_P_s, jp_P_s]
      generalize jp_E B m gone s - jp_P B m gone s = d at q ⊢
      unfold jp_E
      rw [jp_go_n gone e]
      by_cases g : gone i = true
      · rw [if_pos g, if_pos g]
        omega
      · rw [if_neg g, if_neg g, ← q, jp_ps_add]
        omega
theorem jp_go_E {B : Nat → Nat → Nat} {m : Nat → Nat} {gone : Nat → Bool} {s : Nat} (hm : m s ≤ 16) : (∀ i, i < s → jp_E B m (jp_go gone s) i = jp_E B m gone i) ∧ jp_E B m (jp_go gone s) s = jp_P B m gone s ∧ (∀ i, s < i → jp_E B m (jp_go gone s) i + (jp_E B m gone s - jp_P B m gone s) = jp_E B m gone i) := by
  obtain ⟨h1, h2⟩ := jp_go_P (B := B) (m := m) (gone := gone) hm
  refine ⟨fun i hi => ?_, ?_, fun i hi => ?_⟩
  · have q := h1 (i + 1) (by omega)
    rw [jp_P_s, jp_P_s] at q
    omega
  · unfold jp_E
    rw [if_pos (jp_go_y gone s)]
    exact h1 s (Nat.le_refl s)
  · have q := h2 (i + 1) (by omega)
    rw [jp_P_s, jp_P_s] at q
    omega
theorem jp_go_seg {B : Nat → Nat → Nat} {m : Nat → Nat} {gone : Nat → Bool} {s n : Nat} {a5 t : Nat → Int32} (hm : ∀ i, i ≤ n → m i ≤ 16) (hs : s ≤ n) (hl : ∀ i, i ≤ n → jp_seg B m gone a5 i)
    (h1 : ∀ j, j < jp_P B m gone s → t j = a5 j) (h2 : ∀ j, jp_P B m gone s ≤ j → j < jp_P B m (jp_go gone s) (n + 1) → t j = a5 (j + (jp_E B m gone s - jp_P B m gone s))) : ∀ i, i ≤ n → jp_seg B m (jp_go gone s) t i := by
  intro i hi
  obtain ⟨p1, p2⟩ := jp_go_P (B := B) (m := m) (gone := gone) (hm s hs)
  obtain ⟨e1, e2, e3⟩ := jp_go_E (B := B) (m := m) (gone := gone) (hm s hs)
  have hE := jp_E_le (B := B) (gone := gone) (hm s hs)
  have hEi := jp_E_le (B := B) (gone := jp_go gone s) (hm i hi)
  obtain ⟨l1, l2, l3⟩ := hl i hi
  have hlast := jp_P_mono (B := B) (gone := jp_go gone s) hm (a := i + 1) (n + 1) (by omega) (by omega)
  rw [jp_P_s] at hlast
  have hps : jp_go gone s i = false → jp_E B m (jp_go gone s) i = jp_ps (B i) (jp_P B m (jp_go gone s) i) (m i) := fun g => by
    unfold jp_E
    rw [g]
    rfl
  rcases (by omega : i < s ∨ i = s ∨ s < i) with h | h | h
  · have hE' := jp_P_mono (B := B) (gone := gone) hm (a := i + 1) s (by omega) (by omega)
    rw [jp_P_s] at hE'
    refine ⟨fun g => ?_, ?_, ?_⟩
    · have hps' := hps g
      rw [p1 i (by omega)] at hps'
      rw [p1 i (by omega)]
      rw [jp_go_n gone (by omega)] at g
      refine jp_laid_keep (l1 g) (fun j j1 j2 => h1 j ?_)
      rw [e1 i h] at hps'
      omega
    · rw [e1 i h, h1 _ (by omega)]; exact l2
    · rw [e1 i h, h1 _ (by omega)]; exact l3
  · subst h
    refine ⟨fun g => absurd g (by rw [jp_go_y]; decide), ?_, ?_⟩
    · rw [e2, h2 _ (by omega) (by omega), show jp_P B m gone i + (jp_E B m gone i - jp_P B m gone i) = jp_E B m gone i by omega]
      exact l2
    · rw [e2, h2 _ (by omega) (by omega), show jp_P B m gone i + 1 + (jp_E B m gone i - jp_P B m gone i) = jp_E B m gone i + 1 by omega]
      exact l3
  · have q1 := p2 i h
    have q2 := e3 i h
    have hmono := jp_P_mono (B := B) (gone := gone) hm (a := s + 1) i (by omega) (by omega)
    rw [jp_P_s] at hmono
    refine ⟨fun g => ?_, ?_, ?_⟩
    · have hps' := hps g
      rw [jp_go_n gone (by omega)] at g
      have l1' := l1 g
      rw [← q1] at l1'
      refine jp_laid_move l1' (fun j j1 j2 => h2 j (by omega) (by omega))
    · rw [h2 _ (by omega) (by omega), q2]; exact l2
    · rw [h2 _ (by omega) (by omega), show jp_E B m (jp_go gone s) i + 1 + (jp_E B m gone s - jp_P B m gone s) = jp_E B m gone i + 1 by omega]
      exact l3
theorem jp_ps_find (B : Nat → Nat) (p x : Nat) : ∀ m, p ≤ x → x < jp_ps B p m → ∃ j, j < m ∧ (x = jp_ps B p j ∨ (jp_bv B j = 255 ∧ x = jp_ps B p j + 1)) := by
  intro m
  induction m with
  | zero =>
    intro h1 h2
    have h3 : x < p := h2
    omega
  | succ m ih =>
    intro h1 h2
    by_cases h : x < jp_ps B p m
    · obtain ⟨j, j1, j2⟩ := ih h1 h
      exact ⟨j, by omega, j2⟩
    · rw [jp_ps_s] at h2
      by_cases e : jp_bv B m = 255
      · rw [if_pos e] at h2
        by_cases e2 : x = jp_ps B p m
        · exact ⟨m, by omega, Or.inl e2⟩
        · exact ⟨m, by omega, Or.inr ⟨e, by omega⟩⟩
      · rw [if_neg e] at h2
        exact ⟨m, by omega, Or.inl (by omega)⟩
theorem jp_scan {B : Nat → Nat → Nat} {m : Nat → Nat} {gone : Nat → Bool} {a5 : Nat → Int32} {n k x : Nat} (hn : n ≤ 3) (hB : ∀ s t, B s t < 2) (hm : ∀ s, s ≤ n → m s ≤ 16) (hk : k ≤ n) (hl : ∀ s, s ≤ n → jp_seg B m gone a5 s) (h1 : jp_P B m gone k ≤ x + 1) (h2 : x ≤ jp_E B m gone k) :
    ∃ a b, a5 x = nI a ∧ (a = 255 → a5 (x + 1) = nI b) ∧ a < 256 ∧ b < 256 ∧ ((a = 255 ∧ 208 ≤ b) ↔ x = jp_E B m gone k) := by
  obtain ⟨l1, l2, l3⟩ := hl k hk
  have hE := jp_E_le (B := B) (gone := gone) (hm k hk)
  by_cases e0 : jp_P B m gone k = x + 1
  · obtain ⟨i, rfl⟩ : ∃ i, k = i + 1 := by
      rcases k with _ | i
      · exact absurd e0 (by show ¬ 0 = x + 1; omega)
      · exact ⟨i, rfl⟩
    have e1 := jp_P_s B m gone i
    have hi := (hl i (by omega)).2.2
    rw [show jp_E B m gone i + 1 = x by omega] at hi
    exact ⟨208 + i, 0, hi, fun z => absurd z (by omega), by omega, by omega, ⟨fun z => absurd z.1 (by omega), fun z => absurd z (by omega)⟩⟩
  · by_cases eE : x = jp_E B m gone k
    · subst eE
      exact ⟨255, 208 + k, l2, fun _ => l3, by omega, by omega, ⟨fun _ => rfl, fun _ => ⟨rfl, by omega⟩⟩⟩
    · have g : gone k = false := by
        by_cases g : gone k = true
        · have : jp_E B m gone k = jp_P B m gone k := if_pos g
          omega
        · simpa using g
      have hp : jp_E B m gone k = jp_ps (B k) (jp_P B m gone k) (m k) := by
        unfold jp_E
        rw [g]
        rfl
      obtain ⟨j, j1, j2⟩ := jp_ps_find (B k) (jp_P B m gone k) x (m k) (by omega) (by omega)
      have hlj := l1 g j j1
      have hbv := jp_bv_lt (hB k) j
      rcases j2 with j2 | ⟨j2, j3⟩
      · subst j2
        exact ⟨jp_bv (B k) j, 0, hlj.1, hlj.2, hbv, by omega, ⟨fun z => absurd z.2 (by omega), fun z => absurd z eE⟩⟩
      · subst j3
        exact ⟨0, 0, hlj.2 j2, fun z => absurd z (by omega), by omega, by omega, ⟨fun z => absurd z.2 (by omega), fun z => absurd z eE⟩⟩
end
section
theorem jq_lose141 {post : Int32 → St2 → Prop} {f1 f2 f3 f4 f6 f7 f8 f9 f10 f11 : Int32} {a1 a2 a3 a4 a5 a6 a7 a8 a9 a10 a11 a12 a13 a14 a15 a16 : Nat → Int32} {a17 : Nat → Int64} {x3 : Int32} {p d L : Nat} (hL : L ≤ 1900) (hpd : p + d ≤ L)
    (H : ∀ t : Nat → Int32, (∀ j, j < p → t j = a5 j) → (∀ j, p ≤ j → j + d < L → t j = a5 (j + d)) → post x3 (f1, f2, f3, f4, (nI (L - d)), f6, f7, f8, f9, f10, 0, a1, a2, a3, a4, t, a6, a7, a8, a9, a10, a11, a12, a13, a14, a15, a16, a17)) :
    ∃ fu, wX_lose_141 post x3 (nI d) f1 f2 f3 f4 (nI L) f6 f7 f8 f9 f10 f11 fu (nI (p + d)) a1 a2 a3 a4 a5 a6 a7 a8 a9 a10 a11 a12 a13 a14 a15 a16 a17 := by
  refine pk_loop (fun n x (t : Nat → Int32) => wX_lose_141 post x3 (nI d) f1 f2 f3 f4 (nI L) f6 f7 f8 f9 f10 f11 n (nI x) a1 a2 a3 a4 t a6 a7 a8 a9 a10 a11 a12 a13 a14 a15 a16 a17) (fun x t => p + d ≤ x ∧ (∀ j, j < p → t j = a5 j) ∧ (∀ j, p ≤ j → j + d < x → t j = a5 (j + d)) ∧ (∀ j, x ≤ j → t j = a5 j)) L (p + d) a5 hpd ⟨Nat.le_refl _, fun _ _ => rfl, fun j h1 h2 => absurd h2 (by omega), fun _ _ => rfl⟩ ?_ ?_
  · intro n t h
    exact pk_le L L (fun _ => nm_r (pk_sub (by omega)) (H t h.2.1 h.2.2.1)) (fun z => absurd z (by omega))
  · intro n x t hx h hw
    obtain ⟨h0, h1, h2, h3⟩ := h
    have ed : nI x - nI d = nI (x - d) := pk_sub (by omega)
    refine pk_le L x (fun z => absurd z (by omega)) (fun _ => ⟨pk_in x 1900 (by omega), pk_in (x - d) 1900 (by omega) ed, ?_⟩)
    rw [ed, nI_clamp (by omega), nI_clamp (by omega)]
    refine nm_e (nm_r (nI_1 x) (hw _ ⟨by omega, fun j hj => ?_, fun j j1 j2 => ?_, fun j hj => ?_⟩))
    · rw [pk_un (by omega)]; exact h1 j hj
    · by_cases e : j = x - d
      · rw [e, pk_us, h3 x (Nat.le_refl x), show x - d + d = x by omega]
      · rw [pk_un e]; exact h2 j j1 (by omega)
    · rw [pk_un (by omega)]; exact h3 j (by omega)
theorem jq_lose70 {post : Int32 → St2 → Prop} {f1 f2 f3 f4 f6 f7 f8 f9 f10 f11 : Int32} {a1 a2 a3 a4 a5 a6 a7 a8 a9 a10 a11 a12 a13 a14 a15 a16 : Nat → Int32} {a17 : Nat → Int64} {x3 : Int32} {B : Nat → Nat → Nat} {m : Nat → Nat} {gone : Nat → Bool} {s n : Nat} (hn : n ≤ 3) (hB : ∀ s t, B s t < 2) (hm : ∀ s, s ≤ n → m s ≤ 16) (hs : s ≤ n) (hl : ∀ s, s ≤ n → jp_seg B m gone a5 s)
    (H : ∃ fu, wX_lose_141 post x3 (nI (jp_E B m gone s - jp_P B m gone s)) f1 f2 f3 f4 (nI (jp_P B m gone (n + 1))) f6 f7 f8 f9 f10 f11 fu (nI (jp_E B m gone s)) a1 a2 a3 a4 a5 a6 a7 a8 a9 a10 a11 a12 a13 a14 a15 a16 a17) :
    ∃ fu, wX_lose_70 post (nI s) x3 f1 f2 f3 f4 (nI (jp_P B m gone (n + 1))) f6 f7 f8 f9 f10 f11 a1 a2 a3 a4 a5 a6 a7 a8 a9 a10 a11 a12 a13 a14 a15 a16 a17 fu 0 0 0 0 := by
  have hP := jp_P_le (B := B) (gone := gone) hm
  have hEs := jp_E_le (B := B) (gone := gone) (hm s hs)
  have hmono : ∀ k, k ≤ s → jp_E B m gone k ≤ jp_E B m gone s := fun k hk => by
    have q := jp_P_mono (B := B) (gone := gone) hm (a := k + 1) (s + 1) (by omega) (by omega)
    rw [jp_P_s, jp_P_s] at q
    omega
  have hlen : jp_E B m gone s + 2 ≤ jp_P B m gone (n + 1) := by
    have q := jp_P_mono (B := B) (gone := gone) hm (a := s + 1) (n + 1) (by omega) (by omega)
    rw [jp_P_s] at q
    omega
  have hlen2 := hP (n + 1) (by omega)
  have h0 : nI (if 0 < s then 0 else jp_P B m gone s) = 0 := by
    by_cases e : 0 < s
    · rw [if_pos e]; rfl
    · rw [if_neg e, show s = 0 by omega]; rfl
  have h00 : nI (if 0 = s + 1 then jp_E B m gone s else 0) = 0 := by rw [if_neg (by omega)]; rfl
  refine Exists.elim (pk_loop (fun fu x (k : Nat) => wX_lose_70 post (nI s) x3 f1 f2 f3 f4 (nI (jp_P B m gone (n + 1))) f6 f7 f8 f9 f10 f11 a1 a2 a3 a4 a5 a6 a7 a8 a9 a10 a11 a12 a13 a14 a15 a16 a17 fu (nI (if k < s then 0 else jp_P B m gone s)) (nI (if k = s + 1 then jp_E B m gone s else 0)) (nI k) (nI x)) (fun x k => k ≤ s + 1 ∧ (k ≤ s → jp_P B m gone k ≤ x + 1 ∧ x ≤ jp_E B m gone k) ∧ (k = s + 1 → x = jp_E B m gone s + 1)) (jp_E B m gone s + 1) 0 0 (by omega) ⟨by omega, fun _ => ⟨Nat.zero_le _, Nat.zero_le _⟩, fun z => absurd z (by omega)⟩ ?_ ?_) (fun fu h => ⟨fu, ?_⟩)
  · intro fu k h
    obtain ⟨k1, k2, k3⟩ := h
    have ek : k = s + 1 := by
      by_cases e : k = s + 1
      · exact e
      · have q1 := (k2 (by omega)).2
        have q2 := hmono k (by omega)
        omega
    subst ek
    refine pk_le (jp_P B m gone (n + 1)) (jp_E B m gone s + 1) (fun z => absurd z (by omega)) (fun _ => pk_lt s (s + 1) (fun _ => nm_r (e' := nI (jp_E B m gone s - jp_P B m gone s)) ?_ ?_) (fun z => absurd z (by omega)))
    · rw [if_pos rfl, if_neg (show ¬ s + 1 < s by omega), pk_sub (by omega)]
    · rw [if_pos rfl]
      exact H
  · intro fu x k hx h hw
    obtain ⟨k1, k2, k3⟩ := h
    have ks : k ≤ s := by
      by_cases e : k = s + 1
      · have := k3 e
        omega
      · omega
    obtain ⟨q1, q2⟩ := k2 ks
    have hmk := hmono k ks
    obtain ⟨a, b, g1, g2, g3, g4, g5⟩ := jp_scan hn hB hm (show k ≤ n by omega) hl q1 q2
    refine pk_le (jp_P B m gone (n + 1)) x (fun z => absurd z (by omega)) (fun _ => pk_lt s k (fun z => absurd z (by omega)) (fun _ => jq_markAt (by omega) (by omega) g1 g2 g3 g4 ?_))
    rw [if_neg (show ¬ k = s + 1 by omega)]
    by_cases eE : x = jp_E B m gone k
    · rw [if_pos (g5.mpr eE)]
      have hPk := jp_P_s B m gone k
      have hEk : k + 1 ≤ n → jp_P B m gone (k + 1) ≤ jp_E B m gone (k + 1) := fun z => (jp_E_le (B := B) (gone := gone) (hm (k + 1) z)).1
      refine br_f (by decide) (nm_r (nI_1 k) (pk_eq (k + 1) s (fun z => ?_) (fun z => pk_eq (k + 1) (s + 1) (fun z2 => ?_) (fun z2 => ?_) rfl (nI_1 s))))
      · have W := hw (k + 1) ⟨by omega, fun _ => ⟨by omega, by have := hEk (by omega); omega⟩, fun z3 => absurd z3 (by omega)⟩
        rw [if_neg (show ¬ k + 1 < s by omega), if_neg (show ¬ k + 1 = s + 1 by omega)] at W
        refine nm_r (e' := nI (jp_P B m gone s)) ?_ (nm_r (nI_1 x) W)
        rw [show nI x + 2 = nI (x + 2) from nI_add x 2, ← z, hPk, eE]
      · have W := hw (k + 1) ⟨by omega, fun z3 => absurd z3 (by omega), fun _ => by rw [eE, show k = s by omega]⟩
        rw [if_neg (show ¬ k + 1 < s by omega), if_pos z2] at W
        rw [if_neg (show ¬ k < s by omega)]
        refine nm_r (nI_1 x) ?_
        rw [show nI x = nI (jp_E B m gone s) by rw [eE, show k = s by omega]]
        exact W
      · have W := hw (k + 1) ⟨by omega, fun _ => ⟨by omega, by have := hEk (by omega); omega⟩, fun z3 => absurd z3 (by omega)⟩
        rw [if_pos (show k + 1 < s by omega), if_neg z2] at W
        rw [if_pos (show k < s by omega)]
        exact nm_r (nI_1 x) W
    · rw [if_neg (fun z => eE (g5.mp z))]
      have W := hw k ⟨k1, fun _ => ⟨by omega, by omega⟩, fun z => absurd z (by omega)⟩
      rw [if_neg (show ¬ k = s + 1 by omega)] at W
      exact br_t rfl (nm_r (nI_1 x) W)
  · (try dsimp only at h)
    rw [h0, h00] at h
    exact h
theorem jq_lose {post : Int32 → St2 → Prop} {f1 f2 f6 f7 f8 f9 f10 f11 : Int32} {a1 a2 a3 a4 a5 a6 a7 a8 a9 a10 a11 a12 a13 a14 a15 a16 : Nat → Int32} {a17 : Nat → Int64} {r q c0 l0 b : Nat} {lv : Nat → Int} {cd cl : Nat → Nat} {B : Nat → Nat → Nat} {m T : Nat → Nat} {gone : Nat → Bool} (he : jp_env r q lv cd cl c0 l0 B m T a2 a9 a10 a11 a12) (hok : jp_ok r q lv B m gone f11 a5 a13 a14) (hb : b < 4)
    (H : ∀ (s : Int32 × Int32 × Int32 × Int32 × Int32 × (Nat → Int32) × (Nat → Int32) × (Nat → Int64)) (t5 : Nat → Int32), jp_ok r q lv B m (jp_go gone (b / r)) 0 t5 s.2.2.2.2.2.1 s.2.2.2.2.2.2.1 → post (nI (jp_lc r (jp_L r lv gone) (b / r) 4)) (f1, f2, (nI q), (nI r), (nI (jp_P B m (jp_go gone (b / r)) (3 / r + 1))), f6, s.1, s.2.1, s.2.2.1, s.2.2.2.1, 0, a1, a2, a3, a4, t5, a6, a7, a8, a9, a10, a11, a12, s.2.2.2.2.2.1, s.2.2.2.2.2.2.1, a15, a16, s.2.2.2.2.2.2.2)) :
    wpX_lose post (f1, f2, (nI q), (nI r), (nI (jp_P B m gone (3 / r + 1))), f6, f7, f8, f9, f10, f11, a1, a2, a3, a4, a5, a6, a7, a8, a9, a10, a11, a12, a13, a14, a15, a16, a17) (nI b) := by
  have he' := he
  obtain ⟨r1, r4, q1, q8, hpl, hrd, hch, hlv, hq⟩ := he'
  obtain ⟨hlay, hd⟩ := hok
  obtain ⟨s1, s2⟩ := jp_seg_le r1 r4 hb
  have hm : ∀ s, s ≤ 3 / r → m s ≤ 16 := fun s hs => (hpl.2.1 s hs).2
  refine br_f (nI_pos (by omega)) (pk_le b 3 (fun _ => jq_segmentOf r1 r4 hb ?_) (fun z => absurd z (by omega)))
  refine pk_loop (fun n k (s : Int32 × Int32 × Int32 × Int32 × Int32 × (Nat → Int32) × (Nat → Int32) × (Nat → Int64)) => wX_lose_23 post (nI (b / r)) n (nI (jp_lc r (jp_L r lv gone) (b / r) k)) (nI k) f1 f2 (nI q) (nI r) (nI (jp_P B m gone (3 / r + 1))) f6 s.1 s.2.1 s.2.2.1 s.2.2.2.1 s.2.2.2.2.1 a1 a2 a3 a4 a5 a6 a7 a8 a9 a10 a11 a12 s.2.2.2.2.2.1 s.2.2.2.2.2.2.1 a15 a16 s.2.2.2.2.2.2.2) (fun k s => jp_ok r q lv B m gone s.2.2.2.2.1 a5 s.2.2.2.2.2.1 s.2.2.2.2.2.2.1) 4 0 (f7, f8, f9, f10, f11, a13, a14, a17) (by omega) ⟨hlay, hd⟩ ?_ ?_
  · intro n s h
    refine pk_le 4 4 (fun _ => jq_lose70 s2 hpl.1 hm s1 hlay ?_) (fun z => absurd z (by omega))
    have hE := jp_E_le (B := B) (gone := gone) (hm (b / r) s1)
    have hPl := jp_P_le (B := B) (gone := gone) hm (3 / r + 1) (by omega)
    have hmono := jp_P_mono (B := B) (gone := gone) hm (a := b / r + 1) (3 / r + 1) (by omega) (by omega)
    rw [jp_P_s] at hmono
    have gP := (jp_go_P (B := B) (m := m) (gone := gone) (hm (b / r) s1)).2 (3 / r + 1) (by omega)
    have K := jq_lose141 (post := post) (x3 := nI (jp_lc r (jp_L r lv gone) (b / r) 4)) (p := jp_P B m gone (b / r)) (d := jp_E B m gone (b / r) - jp_P B m gone (b / r)) (L := jp_P B m gone (3 / r + 1)) (f1 := f1) (f2 := f2) (f3 := nI q) (f4 := nI r) (f6 := f6) (f7 := s.1) (f8 := s.2.1) (f9 := s.2.2.1) (f10 := s.2.2.2.1) (f11 := s.2.2.2.2.1) (a1 := a1) (a2 := a2) (a3 := a3) (a4 := a4) (a5 := a5) (a6 := a6) (a7 := a7) (a8 := a8) (a9 := a9) (a10 := a10) (a11 := a11) (a12 := a12) (a13 := s.2.2.2.2.2.1) (a14 := s.2.2.2.2.2.2.1) (a15 := a15) (a16 := a16) (a17 := s.2.2.2.2.2.2.2) (by omega) (by omega) (fun t t1 t2 => ?_)
    · rw [show jp_P B m gone (b / r) + (jp_E B m gone (b / r) - jp_P B m gone (b / r)) = jp_E B m gone (b / r) by omega] at K
      exact K
    · rw [show jp_P B m gone (3 / r + 1) - (jp_E B m gone (b / r) - jp_P B m gone (b / r)) = jp_P B m (jp_go gone (b / r)) (3 / r + 1) by omega]
      exact H s t ⟨jp_go_seg hm s1 hlay t1 (fun j j1 j2 => t2 j j1 (by omega)), Or.inl rfl⟩
  · intro n k s hk h hw
    refine pk_le 4 k (fun z => absurd z (by omega)) (fun _ => jq_segmentOf r1 r4 hk (pk_eq (k / r) (b / r) (fun z => jq_weight he h hk (fun t7 t8 t9 t10 t13 t14 t17 g1 g2 => nm_r (e' := nI (jp_lc r (jp_L r lv gone) (b / r) (k + 1))) ?_ (nm_r (nI_1 k) (hw (t7, t8, t9, t10, 1, t13, t14, t17) ⟨hlay, Or.inr ⟨rfl, g1, g2⟩⟩)))) (fun z => nm_r (nI_1 k) ?_) rfl rfl (by have := jp_seg_le r1 r4 hk; omega) (by omega)))
    · rw [nI_add]
      show nI _ = nI (jp_lc r (jp_L r lv gone) (b / r) k + (if k / r = b / r then (if jp_L r lv gone k = 0 then 0 else 1) else 0))
      rw [if_pos z]
    · have W := hw s h
      have e : jp_lc r (jp_L r lv gone) (b / r) (k + 1) = jp_lc r (jp_L r lv gone) (b / r) k := by
        show jp_lc r (jp_L r lv gone) (b / r) k + (if k / r = b / r then (if jp_L r lv gone k = 0 then 0 else 1) else 0) = _
        rw [if_neg z]
        rfl
      rw [e] at W
      exact W
end
section
/-! walks: store -/
theorem jp_wc4 (s : Nat → Nat) (k : Nat) : jp_wc s 4 k = 0 + (if k = s 0 then 1 else 0) + (if k = 0 then 1 else 0) + (if k = s 1 then 1 else 0) + (if k = 0 then 1 else 0) + (if k = s 2 then 1 else 0) + (if k = 0 then 1 else 0) + (if k = s 3 then 1 else 0) + (if k = 0 then 1 else 0) := rfl
theorem jp_wc_0 {s : Nat → Nat} (h : ∀ b, b < 4 → 256 ≤ s b) : jp_wc s 4 0 = 4 := by
  have h0 := h 0 (by omega)
  have h1 := h 1 (by omega)
  have h2 := h 2 (by omega)
  have h3 := h 3 (by omega)
  rw [jp_wc4, if_neg (show ¬ 0 = s 0 by omega), if_neg (show ¬ 0 = s 1 by omega), if_neg (show ¬ 0 = s 2 by omega), if_neg (show ¬ 0 = s 3 by omega)]
  rfl
theorem jp_wc_n {s : Nat → Nat} {k : Nat} (hk : k ≠ 0) (h : ¬ jp_us s k) : jp_wc s 4 k = 0 := by
  have h0 : ¬ k = s 0 := fun z => h (Or.inl z.symm)
  have h1 : ¬ k = s 1 := fun z => h (Or.inr (Or.inl z.symm))
  have h2 : ¬ k = s 2 := fun z => h (Or.inr (Or.inr (Or.inl z.symm)))
  have h3 : ¬ k = s 3 := fun z => h (Or.inr (Or.inr (Or.inr z.symm)))
  rw [jp_wc4, if_neg h0, if_neg h1, if_neg h2, if_neg h3, if_neg hk]
theorem jp_wc_y {s : Nat → Nat} {k : Nat} (hk : k ≠ 0) (h : jp_us s k) : 0 < jp_wc s 4 k ∧ jp_wc s 4 k ≤ 4 := by
  rw [jp_wc4, if_neg hk]
  have h0 : (if k = s 0 then 1 else 0) ≤ 1 := by split <;> omega
  have h1 : (if k = s 1 then 1 else 0) ≤ 1 := by split <;> omega
  have h2 : (if k = s 2 then 1 else 0) ≤ 1 := by split <;> omega
  have h3 : (if k = s 3 then 1 else 0) ≤ 1 := by split <;> omega
  rcases h with h | h | h | h
  · rw [if_pos h.symm]; omega
  · rw [if_pos h.symm]; omega
  · rw [if_pos h.symm]; omega
  · rw [if_pos h.symm]; omega
theorem jp_ch_le {r : Nat} {lv : Nat → Int} (h : ∀ b, b < 4 → -2100 ≤ lv b ∧ lv b ≤ 2100) : ∀ b, b < 4 → (jp_ch r lv b).natAbs < 2 ^ 13 := fun b hb => by
  have h1 := h b hb
  have h2 := h (b - 1) (by omega)
  unfold jp_ch
  split <;> omega
def jp_sc (L : Nat → Int) : Nat → Nat
  | 0 => 0
  | k + 1 => jp_sc L k + (if L k = 0 then 0 else 1)
/-- from the codes on: writing, and the count -/
theorem jq_store_w {post : Int32 → St2 → Prop} {f1 f2 f6 f7 f10 f11 : Int32} {a1 a2 a3 a4 a5 a6 a7 a8 a9 a10 a11 a12 a13 a14 a15 a16 : Nat → Int32} {a17 : Nat → Int64} {r q c0 l0 : Nat} {lv : Nat → Int} {cd cl : Nat → Nat} (r1 : 1 ≤ r) (r4 : r ≤ 4) (q1 : 1 ≤ q) (q8 : q ≤ 8) (hlv : ∀ b, b < 4 → -2100 ≤ lv b ∧ lv b ≤ 2100) (hq : ∀ j, j < 9 → a2 j = jp_qt j) (hf : jp_flat lv a13) (ho : ∀ k, 1 ≤ k → k < 64 → ∃ o, 1 ≤ o ∧ o < 64 ∧ a3 k = nI o)
    (hcd : ∀ b, b < 4 → a8 (256 + jp_sz (jp_ch r lv b)) = nI (cd b) ∧ a4 (256 + jp_sz (jp_ch r lv b)) = nI (cl b) ∧ cl b ≤ 3) (h80 : a8 0 = nI c0) (h40 : a4 0 = nI l0) (hl0 : l0 ≤ 3) (hrd : jp_rd r lv cd cl c0 l0 a9 a10 a11 a12)
    (H : ∀ (B : Nat → Nat → Nat) (m T : Nat → Nat) (s : Int32 × Int32 × Int32 × Int32 × Int32 × (Nat → Int32) × (Nat → Int32) × (Nat → Int64)) (t5 : Nat → Int32), jp_env r q lv cd cl c0 l0 B m T a2 a9 a10 a11 a12 → jp_ok r q lv B m (fun _ => false) s.2.2.2.2.1 t5 s.2.2.2.2.2.1 s.2.2.2.2.2.2.1 → post (nI (jp_sc lv 4)) (f1, f2, (nI q), (nI r), (nI (jp_P B m (fun _ => false) (3 / r + 1))), 0, s.1, s.2.1, s.2.2.1, s.2.2.2.1, s.2.2.2.2.1, a1, a2, a3, a4, t5, a6, a7, a8, a9, a10, a11, a12, s.2.2.2.2.2.1, s.2.2.2.2.2.2.1, a15, a16, s.2.2.2.2.2.2.2)) :
    ∀ P : St2 → Prop, (∀ f1 f2 f3 f4 f5 f6 f7 f8 f9 f10 f11 a1 a2 a3 a4 a5 a6 a7 a8 a9 a10 a11 a12 a13 a14 a15 a16 a17, (∃ fu, wX_store_128 post fu 0 0 f1 f2 f3 f4 f5 f6 f7 f8 f9 f10 0 a1 a2 a3 a4 a5 a6 a7 a8 a9 a10 a11 a12 a13 a14 a15 a16 a17) → P (f1, f2, f3, f4, f5, f6, f7, f8, f9, f10, f11, a1, a2, a3, a4, a5, a6, a7, a8, a9, a10, a11, a12, a13, a14, a15, a16, a17)) → wpX_writeAll P (f1, f2, (nI q), (nI r), 0, f6, f7, 0, 0, f10, f11, a1, a2, a3, a4, a5, a6, a7, a8, a9, a10, a11, a12, a13, a14, a15, a16, a17) 0 := by
  intro P HP
  have hch := jp_ch_le (r := r) hlv
  have hcl : ∀ b, b < 4 → 1 ≤ cl b ∧ cl b ≤ 8 := fun b hb => by
    have h1 := (hrd.1 b hb).1
    have h2 := (hcd b hb).2.2
    omega
  obtain ⟨B, m, T, hpl⟩ := jp_plan_ex (cd := cd) (c0 := c0) r1 r4 hcl (show l0 ≤ 8 by omega) (fun b hb => jp_sz_le (hch b hb))
  have hp16 : ∀ c l : Nat, c < 2 ^ l → l ≤ 3 → c < 65536 := fun c l h1 h2 => by
    have := jp_p2 h2
    omega
  have he : jp_env r q lv cd cl c0 l0 B m T a2 a9 a10 a11 a12 := ⟨r1, r4, q1, q8, hpl, hrd, hch, fun b hb => by have := hlv b hb; omega, hq⟩
  refine jq_writeAllW r1 r4 hpl hf ho hch (fun b hb => ⟨(hcd b hb).1, (hcd b hb).2.1, hp16 _ _ (hrd.1 b hb).2.2.1 (hcd b hb).2.2, by have := hcl b hb; omega⟩) h80 h40 (hp16 _ _ hrd.2.2.2.1 hl0) (by omega) (fun t7 t5 hlay => HP _ _ _ _ _ _ _ _ _ _ _ _ _ _ _ _ _ _ _ _ _ _ _ _ _ _ _ _ ?_)
  have eL : ∀ b, jp_L r lv (fun _ => false) b = lv b := fun b => if_neg (show ¬ false = true by decide)
  refine pk_loop (fun n k (s : Int32 × Int32 × Int32 × Int32 × Int32 × (Nat → Int32) × (Nat → Int32) × (Nat → Int64)) => wX_store_128 post n (nI (jp_sc lv k)) (nI k) f1 f2 (nI q) (nI r) (nI (jp_P B m (fun _ => false) (3 / r + 1))) 0 s.1 s.2.1 s.2.2.1 s.2.2.2.1 s.2.2.2.2.1 a1 a2 a3 a4 t5 a6 a7 a8 a9 a10 a11 a12 s.2.2.2.2.2.1 s.2.2.2.2.2.2.1 a15 a16 s.2.2.2.2.2.2.2) (fun k s => jp_ok r q lv B m (fun _ => false) s.2.2.2.2.1 t5 s.2.2.2.2.2.1 s.2.2.2.2.2.2.1) 4 0 (t7, 0, 0, f10, 0, a13, a14, a17) (by omega) ⟨hlay, Or.inl rfl⟩ ?_ ?_
  · intro n s h
    exact pk_le 4 4 (fun _ => H B m T s t5 he h) (fun z => absurd z (by omega))
  · intro n k s hk h hw
    refine pk_le 4 k (fun z => absurd z (by omega)) (fun _ => jq_weight he h hk (fun t7 t8 t9 t10 t13 t14 t17 g1 g2 => nm_r (e' := nI (jp_sc lv (k + 1))) ?_ (nm_r (nI_1 k) (hw (t7, t8, t9, t10, 1, t13, t14, t17) ⟨hlay, Or.inr ⟨rfl, g1, g2⟩⟩))))
    rw [nI_add, eL]
    rfl
theorem jq_store_c {post : Int32 → St2 → Prop} {f1 f2 f5 f6 f7 f8 f9 f10 f11 : Int32} {a1 a2 a3 a4 a5 a6 a7 a8 a9 a10 a11 a12 a13 a14 a15 a16 : Nat → Int32} {a17 : Nat → Int64} {r q : Nat} {lv : Nat → Int} (r1 : 1 ≤ r) (r4 : r ≤ 4) (q1 : 1 ≤ q) (q8 : q ≤ 8) (hlv : ∀ b, b < 4 → -2100 ≤ lv b ∧ lv b ≤ 2100) (hq : ∀ j, j < 9 → a2 j = jp_qt j) (hf : jp_flat lv a13) (ho : ∀ k, 1 ≤ k → k < 64 → ∃ o, 1 ≤ o ∧ o < 64 ∧ a3 k = nI o)
    (H : ∀ (cd cl : Nat → Nat) (c0 l0 : Nat) (B : Nat → Nat → Nat) (m T : Nat → Nat) (s : Int32 × Int32 × Int32 × Int32 × Int32 × (Nat → Int32) × (Nat → Int32) × (Nat → Int64)) (t4 t5 t6 t7 t8 t9 t10 t11 t12 : Nat → Int32), jp_env r q lv cd cl c0 l0 B m T a2 t9 t10 t11 t12 → jp_ok r q lv B m (fun _ => false) s.2.2.2.2.1 t5 s.2.2.2.2.2.1 s.2.2.2.2.2.2.1 → post (nI (jp_sc lv 4)) (f1, f2, (nI q), (nI r), (nI (jp_P B m (fun _ => false) (3 / r + 1))), 0, s.1, s.2.1, s.2.2.1, s.2.2.2.1, s.2.2.2.2.1, a1, a2, a3, t4, t5, t6, t7, t8, t9, t10, t11, t12, s.2.2.2.2.2.1, s.2.2.2.2.2.2.1, a15, a16, s.2.2.2.2.2.2.2)) :
    ∃ fu, wX_store_36 post f1 f2 (nI q) (nI r) f5 f6 f7 f8 f9 f10 f11 fu 0 a1 a2 a3 a4 a5 a6 a7 a8 a9 a10 a11 a12 a13 a14 a15 a16 a17 := by
  have hch := jp_ch_le (r := r) hlv
  have hsz : ∀ b, b < 4 → jp_sz (jp_ch r lv b) ≤ 13 := fun b hb => jp_sz_le (hch b hb)
  refine pk_loop (fun n k (t : Nat → Int32) => wX_store_36 post f1 f2 (nI q) (nI r) f5 f6 f7 f8 f9 f10 f11 n (nI k) a1 a2 a3 a4 a5 t a7 a8 a9 a10 a11 a12 a13 a14 a15 a16 a17) (fun k t => ∀ j, j < k → t j = nI 0) 272 0 a6 (by omega) (fun j h => absurd h (by omega)) ?_ ?_
  · intro n t6 h6
    refine pk_le 272 272 (fun _ => jq_writeAllC r1 r4 hf ho hch h6 (fun t7 u6 hu => ?_)) (fun z => absurd z (by omega))
    have hs1 : ∀ b, b < 4 → 256 ≤ (fun b => 256 + jp_sz (jp_ch r lv b)) b := fun b _ => Nat.le_add_right _ _
    refine jq_makeLengths (s := fun _ => 0) (fr := 0) (to := 256) (fun i _ => ⟨by omega, by omega⟩) (by omega) (fun i _ => ⟨4, by omega, by omega, ?_⟩) (fun k k1 k2 k3 => ?_) (fun b4 b6 b7 ln l1 l2 l3 l4 l5 => ?_)
    · rw [hu 0 (by omega), jp_wc_0 hs1]
    · have k0 : k ≠ 0 := fun e => k3 (Or.inl e.symm)
      rw [hu k (by omega), jp_wc_n k0 (fun z => ?_)]
      · rfl
      · obtain ⟨i, hi, e⟩ := jp_us_to z
        have := hs1 i hi
        omega
    refine jq_makeLengths (s := fun b => 256 + jp_sz (jp_ch r lv b)) (fr := 256) (to := 272) (fun i hi => ⟨hs1 i hi, ?_⟩) (by omega) (fun i hi => ?_) (fun k k1 k2 k3 => ?_) (fun d4 d6 d7 ln2 m1 m2 m3 m4 m5 => ?_)
    · have := hsz i hi
      show 256 + jp_sz (jp_ch r lv i) < 272
      omega
    · have := hsz i hi
      have q := jp_wc_y (s := fun b => 256 + jp_sz (jp_ch r lv b)) (k := 256 + jp_sz (jp_ch r lv i)) (by omega) (jp_us_of (s := fun b => 256 + jp_sz (jp_ch r lv b)) hi)
      exact ⟨_, q.1, q.2, by rw [l5 _ (by omega), hu _ (by omega)]⟩
    · rw [l5 k k2, hu k k2, jp_wc_n (by omega) k3]
      rfl
    have l10 := l3 0 (by omega)
    have l0e := l1 0 (by omega) (by omega)
    refine jq_makeCodes (fr := 0) (N := 256) (tb := 0) (ln := ln) (by omega) (by omega) l4 (fun k k1 k2 => ?_) (fun b8 b9 b10 b11 b12 n1 n2 n3 n4 => ?_)
    · have := l1 k k1 (by omega)
      rw [m2 k (by omega)]
      exact ⟨this.1, by omega⟩
    refine jq_makeCodes (fr := 256) (N := 16) (tb := 1) (ln := ln2) (by omega) (by omega) m4 (fun k k1 k2 => ?_) (fun e8 e9 e10 e11 e12 o1 o2 o3 o4 => ?_)
    · have := m1 k k1 (by omega)
      exact ⟨this.1, by omega⟩
    obtain ⟨c0, g1, g2⟩ := n1 0 (by omega) l10
    have hx : ∀ b, b < 4 → ∃ c, e8 (256 + jp_sz (jp_ch r lv b)) = nI c ∧ jp_dc 272 e9 e10 e11 e12 1 (256 + jp_sz (jp_ch r lv b)) c (ln2 (256 + jp_sz (jp_ch r lv b))) := fun b hb => o1 (jp_sz (jp_ch r lv b)) (by have := hsz b hb; omega) (m3 b hb)
    obtain ⟨cd, hcd⟩ : ∃ cd : Nat → Nat, ∀ b, b < 4 → e8 (256 + jp_sz (jp_ch r lv b)) = nI (cd b) ∧ jp_dc 272 e9 e10 e11 e12 1 (256 + jp_sz (jp_ch r lv b)) (cd b) (ln2 (256 + jp_sz (jp_ch r lv b))) := by
      obtain ⟨x0, y0⟩ := hx 0 (by omega)
      obtain ⟨x1, y1⟩ := hx 1 (by omega)
      obtain ⟨x2, y2⟩ := hx 2 (by omega)
      obtain ⟨x3, y3⟩ := hx 3 (by omega)
      refine ⟨fun b => if b = 0 then x0 else if b = 1 then x1 else if b = 2 then x2 else x3, fun b hb => ?_⟩
      rcases (by omega : b = 0 ∨ b = 1 ∨ b = 2 ∨ b = 3) with rfl | rfl | rfl | rfl
      · exact y0
      · exact y1
      · exact y2
      · exact y3
    refine jq_store_w (cd := cd) (cl := fun b => ln2 (256 + jp_sz (jp_ch r lv b))) (c0 := c0) (l0 := ln 0) r1 r4 q1 q8 hlv hq hf ho (fun b hb => ?_) ?_ ?_ l0e.2 ⟨fun b hb => (hcd b hb).2, ?_⟩ (fun B m T s t5 he hok => H cd _ c0 _ B m T s _ t5 _ _ _ _ _ _ _ he hok) _ (fun f1 f2 f3 f4 f5 f6 f7 f8 f9 f10 f11 a1 a2 a3 a4 a5 a6 a7 a8 a9 a10 a11 a12 a13 a14 a15 a16 a17 h => h)
    · have := hsz b hb
      have q := m1 (256 + jp_sz (jp_ch r lv b)) (by omega) (by omega)
      exact ⟨(hcd b hb).1, q.1, q.2⟩
    · rw [o2 0 (by omega)]
      exact g1
    · rw [m2 0 (by omega)]
      exact l0e.1
    · exact jp_dc_keep g2 (by omega) (fun j hj => o3 j (by omega)) (fun n hn => o4 (0 * 17 + n) (by omega))
  · intro n k t hk h hw
    refine pk_le 272 k (fun z => absurd z (by omega)) (fun _ => ⟨pk_in k 544 (by omega), ?_⟩)
    rw [nI_clamp (by omega)]
    refine nm_e (nm_r (nI_1 k) (hw _ (fun j hj => ?_)))
    by_cases e : j = k
    · rw [e, pk_us]; rfl
    · rw [pk_un e]; exact h j (by omega)
theorem jp_lvl_in {h : Int} {q : Nat} (h1 : -128 ≤ h) (h2 : h ≤ 127) (q1 : 1 ≤ q) (q8 : q ≤ 8) : -2100 ≤ jp_lvl h q ∧ jp_lvl h q ≤ 2100 := by
  have hb : (32 * h.natAbs + q) / (2 * q) ≤ 2100 := by
    rw [Nat.div_le_iff_le_mul_add_pred (by omega)]
    have : 2 * q * 2100 ≥ 4200 := by omega
    omega
  unfold jp_lvl
  generalize (32 * h.natAbs + q) / (2 * q) = x at *
  split <;> omega
theorem jq_store {post : Int32 → St2 → Prop} {f3 f4 f5 f6 f7 f8 f9 f10 f11 : Int32} {a1 a2 a3 a4 a5 a6 a7 a8 a9 a10 a11 a12 a13 a14 a15 a16 : Nat → Int32} {a17 : Nat → Int64} {r q : Nat} {hh : Nat → Int} (r1 : 1 ≤ r) (r4 : r ≤ 4) (q1 : 1 ≤ q) (q8 : q ≤ 8) (hh1 : ∀ b, b < 4 → -128 ≤ hh b ∧ hh b ≤ 127) (hq : ∀ j, j < 9 → a2 j = jp_qt j) (ho : ∀ k, 1 ≤ k → k < 64 → ∃ o, 1 ≤ o ∧ o < 64 ∧ a3 k = nI o) (hpic : ∀ b, b < 4 → ∀ j i, j < 8 → i < 8 → a1 (jp_co b + j * 16 + i) = jp_z (hh b + 128))
    (H : ∀ (cd cl : Nat → Nat) (c0 l0 : Nat) (B : Nat → Nat → Nat) (m T : Nat → Nat) (s : Int32 × Int32 × Int32 × Int32 × Int32 × (Nat → Int32) × (Nat → Int32) × (Nat → Int64)) (t4 t5 t6 t7 t8 t9 t10 t11 t12 t15 t16 : Nat → Int32), jp_env r q (fun b => jp_lvl (hh b) q) cd cl c0 l0 B m T a2 t9 t10 t11 t12 → jp_ok r q (fun b => jp_lvl (hh b) q) B m (fun _ => false) s.2.2.2.2.1 t5 s.2.2.2.2.2.1 s.2.2.2.2.2.2.1 → post (nI (jp_sc (fun b => jp_lvl (hh b) q) 4)) ((nI q), (nI r), (nI q), (nI r), (nI (jp_P B m (fun _ => false) (3 / r + 1))), 0, s.1, s.2.1, s.2.2.1, s.2.2.2.1, s.2.2.2.2.1, a1, a2, a3, t4, t5, t6, t7, t8, t9, t10, t11, t12, s.2.2.2.2.2.1, s.2.2.2.2.2.2.1, t15, t16, s.2.2.2.2.2.2.2)) :
    wpX_store post ((nI q), (nI r), f3, f4, f5, f6, f7, f8, f9, f10, f11, a1, a2, a3, a4, a5, a6, a7, a8, a9, a10, a11, a12, a13, a14, a15, a16, a17) := by
  refine pk_loop (fun n b (t : (Nat → Int32) × (Nat → Int32) × (Nat → Int32)) => wX_store_18 post n (nI b) (nI q) (nI r) (nI q) (nI r) f5 f6 f7 f8 f9 f10 f11 a1 a2 a3 a4 a5 a6 a7 a8 a9 a10 a11 a12 t.1 a14 t.2.1 t.2.2 a17) (fun b t => ∀ a, a < b → ∀ k, k < 64 → t.1 (a * 64 + k) = if k = 0 then jp_z (jp_lvl (hh a) q) else 0) 4 0 (a13, a15, a16) (by omega) (fun a ha => absurd ha (Nat.not_lt_zero a)) ?_ ?_
  · intro n t h
    exact pk_le 4 4 (fun _ => jq_store_c (lv := fun b => jp_lvl (hh b) q) r1 r4 q1 q8 (fun b hb => jp_lvl_in (hh1 b hb).1 (hh1 b hb).2 q1 q8) hq h ho (fun cd cl c0 l0 B m T s t4 t5 t6 t7 t8 t9 t10 t11 t12 e1 e2 => H cd cl c0 l0 B m T s t4 t5 t6 t7 t8 t9 t10 t11 t12 _ _ e1 e2)) (fun z => absurd z (by omega))
  · intro n b t hb h hw
    refine pk_le 4 b (fun z => absurd z (by omega)) (fun _ => jq_quantise hq hb q1 q8 (hh1 b hb).1 (hh1 b hb).2 (hpic b hb) (fun t13 t15 t16 g1 g2 => nm_r (nI_1 b) (hw (t13, t15, t16) (fun a ha k hk => ?_))))
    show t13 (a * 64 + k) = _
    by_cases e : a = b
    · rw [e]; exact g1 k hk
    · rw [g2 _ (by omega)]
      exact h a (by omega) k hk
end
section
/-! walks: the constructor, fill, and the small ones -/
abbrev jp_zw (d k : Nat) : Nat := if d % 2 = 0 then 7 - k else k
abbrev jp_zv (d k : Nat) : Prop := jp_zw d k ≤ d ∧ d - jp_zw d k < 8
def jp_zr (d : Nat) : Nat → Nat
  | 0 => 0
  | k + 1 => jp_zr d k + (if jp_zv d k then 1 else 0)
def jp_zd : Nat → Nat
  | 0 => 0
  | d + 1 => jp_zd d + jp_zr d 8
theorem jp_z15 : jp_zd 15 = 64 := by decide +kernel
theorem jp_zfit : ∀ d, d < 15 → ∀ k, k < 8 → jp_zv d k → jp_zd d + jp_zr d k < 64 ∧ (1 ≤ jp_zd d + jp_zr d k → 1 ≤ d) := by decide +kernel
def jp_ord (n : Nat) (t : Nat → Int32) : Prop := ∀ k, 1 ≤ k → k < n → ∃ o, 1 ≤ o ∧ o < 64 ∧ t k = nI o
theorem jq_init243 {post : St2 → Prop} {mc ms kc ks : Nat} {f1 f2 f3 f4 f5 f6 f7 f8 f9 f10 f11 : Int32} {a1 a2 a4 a5 a6 a7 a8 a9 a10 a11 a12 a13 a14 a15 a16 : Nat → Int32} {a17 : Nat → Int64} {b3 : Nat → Int32} (H : ∀ t3 t5 : Nat → Int32, jp_ord 64 t3 → post (1, 4, 1, 4, 2, f6, f7, f8, f9, f10, f11, a1, a2, t3, a4, t5, a6, a7, a8, a9, a10, a11, a12, a13, a14, a15, a16, a17)) :
    ∃ fu, wX_init_243 post mc ms kc ks f1 f2 f3 f4 f5 f6 f7 f8 f9 f10 f11 fu 0 0 a1 a2 b3 a4 a5 a6 a7 a8 a9 a10 a11 a12 a13 a14 a15 a16 a17 := by
  refine pk_loop (fun n d (t : Nat → Int32) => wX_init_243 post mc ms kc ks f1 f2 f3 f4 f5 f6 f7 f8 f9 f10 f11 n (nI (jp_zd d)) (nI d) a1 a2 t a4 a5 a6 a7 a8 a9 a10 a11 a12 a13 a14 a15 a16 a17) (fun d t => jp_ord (jp_zd d) t) 15 0 b3 (by omega) (fun k k1 k2 => absurd k2 (by show ¬ k < 0; omega)) ?_ ?_
  · intro n t h
    rw [jp_z15] at h
    exact pk_le 15 15 (fun _ => nm_e (nm_e (H _ _ h))) (fun z => absurd z (by omega))
  · intro n d t hd h hw
    refine pk_le 15 d (fun z => absurd z (by omega)) (fun _ => ?_)
    refine pk_loop (fun n' k (t : Nat → Int32) => wX_init_251 post mc ms (wX_init_243 post mc ms kc ks f1 f2 f3 f4 f5 f6 f7 f8 f9 f10 f11 n) (nI d) kc ks f1 f2 f3 f4 f5 f6 f7 f8 f9 f10 f11 n' (nI (jp_zd d + jp_zr d k)) (nI k) a1 a2 t a4 a5 a6 a7 a8 a9 a10 a11 a12 a13 a14 a15 a16 a17) (fun k t => jp_ord (jp_zd d + jp_zr d k) t) 8 0 t (by omega) h ?_ ?_
    · intro n' t' h'
      exact pk_le 8 8 (fun _ => nm_r (nI_1 d) (hw t' h')) (fun z => absurd z (by omega))
    · intro n' k t' hk h' hw'
      have hf := jp_zfit d hd k hk
      have main : ∀ v : Nat, v = jp_zw d k → v < 8 → wX_init_271 post mc ms (wX_init_243 post mc ms kc ks f1 f2 f3 f4 f5 f6 f7 f8 f9 f10 f11 n) (wX_init_251 post mc ms (wX_init_243 post mc ms kc ks f1 f2 f3 f4 f5 f6 f7 f8 f9 f10 f11 n) (nI d) kc ks f1 f2 f3 f4 f5 f6 f7 f8 f9 f10 f11 n') (nI (jp_zd d + jp_zr d k)) (nI d) (nI k) (nI v) kc ks f1 f2 f3 f4 f5 f6 f7 f8 f9 f10 f11 a1 a2 t' a4 a5 a6 a7 a8 a9 a10 a11 a12 a13 a14 a15 a16 a17 := by
        intro v hv hv8
        have keep : ¬ jp_zv d k → wX_init_251 post mc ms (wX_init_243 post mc ms kc ks f1 f2 f3 f4 f5 f6 f7 f8 f9 f10 f11 n) (nI d) kc ks f1 f2 f3 f4 f5 f6 f7 f8 f9 f10 f11 n' (nI (jp_zd d + jp_zr d k)) (nI (k + 1)) a1 a2 t' a4 a5 a6 a7 a8 a9 a10 a11 a12 a13 a14 a15 a16 a17 := fun z => by
          have W := hw' t' (by
            show jp_ord (jp_zd d + (jp_zr d k + (if jp_zv d k then 1 else 0))) t'
            rw [if_neg z]
            exact h')
          rw [show jp_zr d (k + 1) = jp_zr d k + (if jp_zv d k then 1 else 0) from rfl, if_neg z] at W
          exact W
        refine nm_r (e' := jp_z ((d : Int) - v)) ?_ (jp_blt ((d : Int) - v) 0 (fun z => nm_r (nI_1 k) (keep ?_)) (fun z => jp_ble 8 ((d : Int) - v) (fun z2 => nm_r (nI_1 k) (keep ?_)) (fun z2 => ?_)))
        · rw [← jp_zn, ← jp_zn, jp_zsub]
        · intro y
          have := y.1
          omega
        · intro y
          have := y.2
          omega
        · have zv : jp_zv d k := ⟨by omega, by omega⟩
          obtain ⟨f1', f2'⟩ := hf zv
          have ev : nI v * 8 + jp_z ((d : Int) - v) = nI (v * 8 + (d - v)) := by
            rw [show jp_z ((d : Int) - v) = nI (d - v) by rw [← jp_zn]; exact congrArg jp_z (by omega)]
            exact jp_ix v 8 (d - v)
          refine ⟨pk_in (jp_zd d + jp_zr d k) 64 f1', ?_⟩
          rw [nI_clamp (by omega), ev]
          refine nm_e (nm_r (nI_1 _) (nm_r (nI_1 k) ?_))
          have W := hw' (upd t' (jp_zd d + jp_zr d k) (nI (v * 8 + (d - v)))) (by
            show jp_ord (jp_zd d + (jp_zr d k + (if jp_zv d k then 1 else 0))) _
            rw [if_pos zv]
            intro j j1 j2
            by_cases e : j = jp_zd d + jp_zr d k
            · have := f2' (by omega)
              exact ⟨v * 8 + (d - v), by omega, by omega, by rw [e, pk_us]⟩
            · rw [pk_un e]
              exact h' j j1 (by omega))
          rw [show jp_zr d (k + 1) = jp_zr d k + (if jp_zv d k then 1 else 0) from rfl, if_pos zv] at W
          exact W
      refine pk_le 8 k (fun z => absurd z (by omega)) (fun _ => pk_eq (d % 2) 0 (fun z => ?_) (fun z => ?_) (jp_and1 (by omega)))
      · have M := main (7 - k) (if_pos z).symm (by omega)
        rw [← pk_sub (show k ≤ 7 by omega)] at M
        exact M
      · exact main k (if_neg z).symm hk
theorem jq_init {post : St2 → Prop} {mc ms : Nat} {f1 f2 f3 f4 f5 f6 f7 f8 f9 f10 f11 : Int32} (hmc : 17 ≤ mc) (hms : 4939 ≤ ms) (H : ∀ {f1 f2 f3 f4 f5 : Int32} {a1 a2 a3 a4 a5 a6 a7 a8 a9 a10 a11 a12 a13 a14 a15 a16 : Nat → Int32} {a17 : Nat → Int64}, (∀ j, j < 9 → a2 j = jp_qt j) → jp_ord 64 a3 → post (f1, f2, f3, f4, f5, f6, f7, f8, f9, f10, f11, a1, a2, a3, a4, a5, a6, a7, a8, a9, a10, a11, a12, a13, a14, a15, a16, a17)) : wpX_init post mc ms (f1, f2, f3, f4, f5, f6, f7, f8, f9, f10, f11) := by
  refine ⟨by omega, by omega, by omega, by omega, by omega, by omega, by omega, by omega, by omega, by omega, by omega, by omega, by omega, by omega, by omega, by omega, by omega, by omega, by omega, by omega, by omega, by omega, by omega, by omega, by omega, by omega, by omega, by omega, by omega, by omega, by omega, by omega, by omega, by omega, ?_⟩
  refine pk_loop (fun n k (t : Nat → Int32) => wX_init_151 post mc ms 17 4939 f1 f2 f3 f4 f5 f6 f7 f8 f9 f10 f11 n (nI k) t (fun _ => 0) (fun _ => 0) (fun _ => 0) (fun _ => 0) (fun _ => 0) (fun _ => 0) (fun _ => 0) (fun _ => 0) (fun _ => 0) (fun _ => 0) (fun _ => 0) (fun _ => 0) (fun _ => 0) (fun _ => 0) (fun _ => 0) (fun _ => 0)) (fun _ _ => True) 256 0 (fun _ => 0) (by omega) trivial ?_ ?_
  · intro n t _
    refine pk_le 256 256 (fun _ => nm_e (nm_e (nm_e (nm_e (nm_e (nm_e (nm_e (nm_e (jq_init243 (fun t3 t5 h3 => H ?_ h3)))))))))) (fun z => absurd z (by omega))
    intro j hj
    rcases (by omega : j = 0 ∨ j = 1 ∨ j = 2 ∨ j = 3 ∨ j = 4 ∨ j = 5 ∨ j = 6 ∨ j = 7 ∨ j = 8) with rfl | rfl | rfl | rfl | rfl | rfl | rfl | rfl | rfl <;> rfl
  · intro n k t hk _ hw
    exact pk_le 256 k (fun z => absurd z (by omega)) (fun _ => ⟨pk_in k 256 hk, nm_e (nm_r (nI_1 k) (hw _ trivial))⟩)
theorem jq_off {post : Int32 → Prop} {f1 f2 f3 f4 f5 f6 f7 f8 f9 f10 f11 : Int32} {a1 a2 a3 a4 a5 a6 a7 a8 a9 a10 a11 a12 a13 a14 a15 a16 : Nat → Int32} {a17 : Nat → Int64} {x : Nat} (hx : x < 16) (H : post 0) : wpX_off post (f1, f2, f3, f4, f5, f6, f7, f8, f9, f10, f11, a1, a2, a3, a4, a5, a6, a7, a8, a9, a10, a11, a12, a13, a14, a15, a16, a17) (nI x) := br_f (nI_pos (by omega)) (pk_lt x 16 (fun _ => H) (fun z => absurd z (by omega)))
theorem jq_badGrey {post : Int32 → Prop} {f1 f2 f3 f4 f5 f6 f7 f8 f9 f10 f11 : Int32} {a1 a2 a3 a4 a5 a6 a7 a8 a9 a10 a11 a12 a13 a14 a15 a16 : Nat → Int32} {a17 : Nat → Int64} {x : Nat} (hx : x < 256) (H : post 0) : wpX_badGrey post (f1, f2, f3, f4, f5, f6, f7, f8, f9, f10, f11, a1, a2, a3, a4, a5, a6, a7, a8, a9, a10, a11, a12, a13, a14, a15, a16, a17) (nI x) := br_f (nI_pos (by omega)) (pk_le x 255 (fun _ => H) (fun z => absurd z (by omega)))
theorem jp_c16' {y x : Nat} (h : y * 16 + x < 2 ^ 31) : (nI y * 16 + nI x).toNatClampNeg = y * 16 + x := pk_cl _ (jp_ix y 16 x) h
theorem jq_fill {post : Int32 → St2 → Prop} {f1 f2 f3 f4 f5 f6 f7 f8 f9 f10 f11 : Int32} {a1 a2 a3 a4 a5 a6 a7 a8 a9 a10 a11 a12 a13 a14 a15 a16 : Nat → Int32} {a17 : Nat → Int64} {x0 y0 g : Nat} (hx0 : x0 < 16) (hy0 : y0 < 16) (hg : g < 256) (H : ∀ t : Nat → Int32, (∀ y x, y < 16 → x < 16 → t (y * 16 + x) = if y0 ≤ y ∧ x0 ≤ x then nI g else a1 (y * 16 + x)) → post 0 (f1, f2, f3, f4, f5, f6, f7, f8, f9, f10, f11, t, a2, a3, a4, a5, a6, a7, a8, a9, a10, a11, a12, a13, a14, a15, a16, a17)) : wpX_fill post (f1, f2, f3, f4, f5, f6, f7, f8, f9, f10, f11, a1, a2, a3, a4, a5, a6, a7, a8, a9, a10, a11, a12, a13, a14, a15, a16, a17) (nI x0) (nI y0) (nI g) := by
  unfold wpX_fill
  refine jq_off hx0 ?_
  refine br_t rfl (jq_off hy0 (br_t rfl (jq_badGrey hg (br_t rfl ?_))))
  refine pk_loop (fun n y (t : Nat → Int32) => wX_fill_30 post (nI x0) (nI g) f1 f2 f3 f4 f5 f6 f7 f8 f9 f10 f11 n (nI y) t a2 a3 a4 a5 a6 a7 a8 a9 a10 a11 a12 a13 a14 a15 a16 a17) (fun y t => y0 ≤ y ∧ ∀ Y X, Y < 16 → X < 16 → t (Y * 16 + X) = if y0 ≤ Y ∧ Y < y ∧ x0 ≤ X then nI g else a1 (Y * 16 + X)) 16 y0 a1 (by omega) ⟨Nat.le_refl _, fun Y X hY hX => by rw [if_neg (by omega)]⟩ ?_ ?_
  · intro n t h
    refine pk_le 16 16 (fun _ => H t (fun Y X hY hX => ?_)) (fun z => absurd z (by omega))
    rw [h.2 Y X hY hX]
    by_cases e : y0 ≤ Y ∧ x0 ≤ X
    · rw [if_pos e, if_pos (by omega)]
    · rw [if_neg e, if_neg (by omega)]
  · intro n y t hy h hw
    refine pk_le 16 y (fun z => absurd z (by omega)) (fun _ => ?_)
    refine pk_loop (fun n' x (t : Nat → Int32) => wX_fill_40 post (wX_fill_30 post (nI x0) (nI g) f1 f2 f3 f4 f5 f6 f7 f8 f9 f10 f11 n) (nI x0) (nI g) (nI y) f1 f2 f3 f4 f5 f6 f7 f8 f9 f10 f11 n' (nI x) t a2 a3 a4 a5 a6 a7 a8 a9 a10 a11 a12 a13 a14 a15 a16 a17) (fun x t => x0 ≤ x ∧ ∀ Y X, Y < 16 → X < 16 → t (Y * 16 + X) = if y0 ≤ Y ∧ x0 ≤ X ∧ (Y < y ∨ (Y = y ∧ X < x)) then nI g else a1 (Y * 16 + X)) 16 x0 t (by omega) ⟨Nat.le_refl _, fun Y X hY hX => ?_⟩ ?_ ?_
    · rw [h.2 Y X hY hX]
      by_cases e : y0 ≤ Y ∧ Y < y ∧ x0 ≤ X
      · rw [if_pos e, if_pos (by omega)]
      · rw [if_neg e, if_neg (by omega)]
    · intro n' t' h'
      refine pk_le 16 16 (fun _ => nm_r (nI_1 y) (hw t' ⟨by omega, fun Y X hY hX => ?_⟩)) (fun z => absurd z (by omega))
      rw [h'.2 Y X hY hX]
      have := h.1
      by_cases e : y0 ≤ Y ∧ Y < y + 1 ∧ x0 ≤ X
      · rw [if_pos e, if_pos (by omega)]
      · rw [if_neg e, if_neg (by omega)]
    · intro n' x t' hx h' hw'
      refine pk_le 16 x (fun z => absurd z (by omega)) (fun _ => ⟨pk_in (y * 16 + x) 256 (by omega) (jp_ix y 16 x), ?_⟩)
      rw [jp_c16' (by omega)]
      have := h.1
      have := h'.1
      refine nm_e (nm_r (nI_1 x) (hw' _ ⟨by omega, fun Y X hY hX => ?_⟩))
      by_cases e : Y = y ∧ X = x
      · rw [e.1, e.2, pk_us, if_pos (by omega)]
      · rw [pk_un (by omega), h'.2 Y X hY hX]
        by_cases e2 : y0 ≤ Y ∧ x0 ≤ X ∧ (Y < y ∨ (Y = y ∧ X < x))
        · rw [if_pos e2, if_pos (by omega)]
        · rw [if_neg e2, if_neg (by omega)]
theorem jq_quality {post : Int32 → St2 → Prop} {f1 f2 f3 f4 f5 f6 f7 f8 f9 f10 f11 : Int32} {a1 a2 a3 a4 a5 a6 a7 a8 a9 a10 a11 a12 a13 a14 a15 a16 : Nat → Int32} {a17 : Nat → Int64} {q : Nat} (q1 : 1 ≤ q) (q8 : q ≤ 8) (H : post f1 ((nI q), f2, f3, f4, f5, f6, f7, f8, f9, f10, f11, a1, a2, a3, a4, a5, a6, a7, a8, a9, a10, a11, a12, a13, a14, a15, a16, a17)) : wpX_quality post (f1, f2, f3, f4, f5, f6, f7, f8, f9, f10, f11, a1, a2, a3, a4, a5, a6, a7, a8, a9, a10, a11, a12, a13, a14, a15, a16, a17) (nI q) := pk_lt q 1 (fun z => absurd z (by omega)) (fun _ => pk_le q 8 (fun _ => H) (fun z => absurd z (by omega)))
theorem jq_interval {post : Int32 → St2 → Prop} {f1 f2 f3 f4 f5 f6 f7 f8 f9 f10 f11 : Int32} {a1 a2 a3 a4 a5 a6 a7 a8 a9 a10 a11 a12 a13 a14 a15 a16 : Nat → Int32} {a17 : Nat → Int64} {r : Nat} (r1 : 1 ≤ r) (r4 : r ≤ 4) (H : post f2 (f1, (nI r), f3, f4, f5, f6, f7, f8, f9, f10, f11, a1, a2, a3, a4, a5, a6, a7, a8, a9, a10, a11, a12, a13, a14, a15, a16, a17)) : wpX_interval post (f1, f2, f3, f4, f5, f6, f7, f8, f9, f10, f11, a1, a2, a3, a4, a5, a6, a7, a8, a9, a10, a11, a12, a13, a14, a15, a16, a17) (nI r) := pk_lt r 1 (fun z => absurd z (by omega)) (fun _ => pk_le r 4 (fun _ => H) (fun z => absurd z (by omega)))
end
section
/-! walks: level, show, difference, adopt -/
def jp_blk (i : Nat) : Nat := i / 128 * 2 + i % 16 / 8
theorem jp_blk_at {i : Nat} (h : i < 256) : jp_blk i < 4 ∧ i = jp_co (jp_blk i) + i / 16 % 8 * 16 + i % 8 := by
  unfold jp_co jp_blk
  omega
theorem jp_blk_co {b j i : Nat} (hb : b < 4) (hj : j < 8) (hi : i < 8) : jp_blk (jp_co b + j * 16 + i) = b ∧ jp_co b + j * 16 + i < 256 := by
  unfold jp_co jp_blk
  omega
theorem jp_due_in (l : Int) (q : Nat) : 0 ≤ jp_due l q ∧ jp_due l q ≤ 255 := by
  unfold jp_due
  split
  · omega
  · split <;> omega
theorem jp_shown_at {L : Nat → Int} {q : Nat} {a14 : Nat → Int32} (h : jp_shown L q a14 4) {i : Nat} (hi : i < 256) : a14 i = jp_z (jp_due (L (jp_blk i)) q) := by
  obtain ⟨h1, h2⟩ := jp_blk_at hi
  have h3 := h (jp_blk i) h1 (i / 16 % 8) (i % 8) (by omega) (by omega)
  rw [← h2] at h3
  exact h3
theorem jq_level {post : Int32 → St2 → Prop} {f1 f2 f6 f7 f8 f9 f10 f11 : Int32} {a1 a2 a3 a4 a5 a6 a7 a8 a9 a10 a11 a12 a13 a14 a15 a16 : Nat → Int32} {a17 : Nat → Int64} {r q c0 l0 b : Nat} {lv : Nat → Int} {cd cl : Nat → Nat} {B : Nat → Nat → Nat} {m T : Nat → Nat} {gone : Nat → Bool} (he : jp_env r q lv cd cl c0 l0 B m T a2 a9 a10 a11 a12) (hok : jp_ok r q lv B m gone f11 a5 a13 a14) (hb : b < 4)
    (H : ∀ s : Int32 × Int32 × Int32 × Int32 × Int32 × (Nat → Int32) × (Nat → Int32) × (Nat → Int64), jp_ok r q lv B m gone s.2.2.2.2.1 a5 s.2.2.2.2.2.1 s.2.2.2.2.2.2.1 → post (jp_z (jp_L r lv gone b)) (f1, f2, (nI q), (nI r), (nI (jp_P B m gone (3 / r + 1))), f6, s.1, s.2.1, s.2.2.1, s.2.2.2.1, s.2.2.2.2.1, a1, a2, a3, a4, a5, a6, a7, a8, a9, a10, a11, a12, s.2.2.2.2.2.1, s.2.2.2.2.2.2.1, a15, a16, s.2.2.2.2.2.2.2)) :
    wpX_level post (f1, f2, (nI q), (nI r), (nI (jp_P B m gone (3 / r + 1))), f6, f7, f8, f9, f10, f11, a1, a2, a3, a4, a5, a6, a7, a8, a9, a10, a11, a12, a13, a14, a15, a16, a17) (nI b) 0 0 := by
  have e0 : nI b * 64 + 0 * 8 + 0 = nI (b * 64) := by
    rw [Int32.add_zero, Int32.zero_mul, Int32.add_zero]
    exact pk_mul b 64
  refine br_f (nI_pos (by omega)) (pk_lt 3 b (fun z => absurd z (by omega)) (fun _ => br_f (by decide) (br_f (by decide) (br_f (by decide) (br_t (by decide) (jq_decode he hok (fun t7 t8 t9 t10 t13 t14 t17 g1 g2 => ⟨pk_in (b * 64) 256 (by omega) e0, ?_⟩)))))))
  rw [e0, nI_clamp (by omega), jp_flat_0 g1 hb]
  exact H (t7, t8, t9, t10, 1, t13, t14, t17) ⟨hok.1, Or.inr ⟨rfl, g1, g2⟩⟩
theorem jq_show {post : Int32 → St2 → Prop} {f1 f2 f6 f7 f8 f9 f10 f11 : Int32} {a1 a2 a3 a4 a5 a6 a7 a8 a9 a10 a11 a12 a13 a14 a15 a16 : Nat → Int32} {a17 : Nat → Int64} {r q c0 l0 x y : Nat} {lv : Nat → Int} {cd cl : Nat → Nat} {B : Nat → Nat → Nat} {m T : Nat → Nat} {gone : Nat → Bool} (he : jp_env r q lv cd cl c0 l0 B m T a2 a9 a10 a11 a12) (hok : jp_ok r q lv B m gone f11 a5 a13 a14) (hx : x < 16) (hy : y < 16)
    (H : ∀ s : Int32 × Int32 × Int32 × Int32 × Int32 × (Nat → Int32) × (Nat → Int32) × (Nat → Int64), jp_ok r q lv B m gone s.2.2.2.2.1 a5 s.2.2.2.2.2.1 s.2.2.2.2.2.2.1 → post (jp_z (jp_due (jp_L r lv gone (jp_blk (y * 16 + x))) q)) (f1, f2, (nI q), (nI r), (nI (jp_P B m gone (3 / r + 1))), f6, s.1, s.2.1, s.2.2.1, s.2.2.2.1, s.2.2.2.2.1, a1, a2, a3, a4, a5, a6, a7, a8, a9, a10, a11, a12, s.2.2.2.2.2.1, s.2.2.2.2.2.2.1, a15, a16, s.2.2.2.2.2.2.2)) :
    wpX_show post (f1, f2, (nI q), (nI r), (nI (jp_P B m gone (3 / r + 1))), f6, f7, f8, f9, f10, f11, a1, a2, a3, a4, a5, a6, a7, a8, a9, a10, a11, a12, a13, a14, a15, a16, a17) (nI x) (nI y) := by
  unfold wpX_show
  refine jq_off hx ?_
  refine br_t rfl (jq_off hy (br_t rfl (jq_decode he hok (fun t7 t8 t9 t10 t13 t14 t17 g1 g2 => ⟨pk_in (y * 16 + x) 256 (by omega) (jp_ix y 16 x), ?_⟩))))
  rw [jp_c16' (by omega), jp_shown_at g2 (by omega)]
  exact H (t7, t8, t9, t10, 1, t13, t14, t17) ⟨hok.1, Or.inr ⟨rfl, g1, g2⟩⟩
theorem jp_sum4 (d : Nat → Nat) : jp_sm (fun i => d (jp_blk i)) 0 256 = 64 * (d 0 + d 1 + d 2 + d 3) := by
  have c0 : jp_sm (fun i => if jp_blk i = 0 then 1 else 0) 0 256 = 64 := by decide +kernel
  have c1 : jp_sm (fun i => if jp_blk i = 1 then 1 else 0) 0 256 = 64 := by decide +kernel
  have c2 : jp_sm (fun i => if jp_blk i = 2 then 1 else 0) 0 256 = 64 := by decide +kernel
  have c3 : jp_sm (fun i => if jp_blk i = 3 then 1 else 0) 0 256 = 64 := by decide +kernel
  have m0 := jp_sm_mul (f := fun i => d 0 * (if jp_blk i = 0 then 1 else 0)) (g := fun i => if jp_blk i = 0 then 1 else 0) (fr := 0) (c := d 0) 256 (fun _ _ _ => rfl)
  have m1 := jp_sm_mul (f := fun i => d 1 * (if jp_blk i = 1 then 1 else 0)) (g := fun i => if jp_blk i = 1 then 1 else 0) (fr := 0) (c := d 1) 256 (fun _ _ _ => rfl)
  have m2 := jp_sm_mul (f := fun i => d 2 * (if jp_blk i = 2 then 1 else 0)) (g := fun i => if jp_blk i = 2 then 1 else 0) (fr := 0) (c := d 2) 256 (fun _ _ _ => rfl)
  have m3 := jp_sm_mul (f := fun i => d 3 * (if jp_blk i = 3 then 1 else 0)) (g := fun i => if jp_blk i = 3 then 1 else 0) (fr := 0) (c := d 3) 256 (fun _ _ _ => rfl)
  have a1 := jp_sm_add (f := fun i => d 0 * (if jp_blk i = 0 then 1 else 0) + d 1 * (if jp_blk i = 1 then 1 else 0)) (g := fun i => d 0 * (if jp_blk i = 0 then 1 else 0)) (e := fun i => d 1 * (if jp_blk i = 1 then 1 else 0)) (fr := 0) 256 (fun _ _ _ => rfl)
  have a2 := jp_sm_add (f := fun i => d 2 * (if jp_blk i = 2 then 1 else 0) + d 3 * (if jp_blk i = 3 then 1 else 0)) (g := fun i => d 2 * (if jp_blk i = 2 then 1 else 0)) (e := fun i => d 3 * (if jp_blk i = 3 then 1 else 0)) (fr := 0) 256 (fun _ _ _ => rfl)
  have a3 := jp_sm_add (f := fun i => d (jp_blk i)) (g := fun i => d 0 * (if jp_blk i = 0 then 1 else 0) + d 1 * (if jp_blk i = 1 then 1 else 0)) (e := fun i => d 2 * (if jp_blk i = 2 then 1 else 0) + d 3 * (if jp_blk i = 3 then 1 else 0)) (fr := 0) 256 (fun i _ hi => by
    have hb := (jp_blk_at (show i < 256 by omega)).1
    generalize jp_blk i = b at *
    rcases (by omega : b = 0 ∨ b = 1 ∨ b = 2 ∨ b = 3) with rfl | rfl | rfl | rfl <;> simp)
  rw [a3, a1, a2, m0, m1, m2, m3, c0, c1, c2, c3]
  omega
theorem jq_difference {post : Int32 → St2 → Prop} {f1 f2 f6 f7 f8 f9 f10 f11 : Int32} {a1 a2 a3 a4 a5 a6 a7 a8 a9 a10 a11 a12 a13 a14 a15 a16 : Nat → Int32} {a17 : Nat → Int64} {r q c0 l0 : Nat} {lv : Nat → Int} {cd cl : Nat → Nat} {B : Nat → Nat → Nat} {m T : Nat → Nat} {gone : Nat → Bool} {G : Nat → Int} (he : jp_env r q lv cd cl c0 l0 B m T a2 a9 a10 a11 a12) (hok : jp_ok r q lv B m gone f11 a5 a13 a14) (hG : ∀ b, b < 4 → 0 ≤ G b ∧ G b ≤ 255) (hpic : ∀ i, i < 256 → a1 i = jp_z (G (jp_blk i)))
    (H : ∀ s : Int32 × Int32 × Int32 × Int32 × Int32 × (Nat → Int32) × (Nat → Int32) × (Nat → Int64), jp_ok r q lv B m gone s.2.2.2.2.1 a5 s.2.2.2.2.2.1 s.2.2.2.2.2.2.1 → jp_shown (jp_L r lv gone) q s.2.2.2.2.2.2.1 4 → post (nI (64 * ((G 0 - jp_due (jp_L r lv gone 0) q).natAbs + (G 1 - jp_due (jp_L r lv gone 1) q).natAbs + (G 2 - jp_due (jp_L r lv gone 2) q).natAbs + (G 3 - jp_due (jp_L r lv gone 3) q).natAbs))) (f1, f2, (nI q), (nI r), (nI (jp_P B m gone (3 / r + 1))), f6, s.1, s.2.1, s.2.2.1, s.2.2.2.1, s.2.2.2.2.1, a1, a2, a3, a4, a5, a6, a7, a8, a9, a10, a11, a12, s.2.2.2.2.2.1, s.2.2.2.2.2.2.1, a15, a16, s.2.2.2.2.2.2.2)) :
    wpX_difference post (f1, f2, (nI q), (nI r), (nI (jp_P B m gone (3 / r + 1))), f6, f7, f8, f9, f10, f11, a1, a2, a3, a4, a5, a6, a7, a8, a9, a10, a11, a12, a13, a14, a15, a16, a17) := by
  refine jq_decode he hok (fun t7 t8 t9 t10 t13 t14 t17 g1 g2 => ?_)
  have hfin := H (t7, t8, t9, t10, 1, t13, t14, t17) ⟨hok.1, Or.inr ⟨rfl, g1, g2⟩⟩ g2
  rw [← jp_sum4 (fun b => (G b - jp_due (jp_L r lv gone b) q).natAbs)] at hfin
  refine pk_loop (σ := Unit) (fun n i _ => wX_difference_8 post f1 f2 (nI q) (nI r) (nI (jp_P B m gone (3 / r + 1))) f6 t7 t8 t9 t10 1 a1 a2 a3 a4 a5 a6 a7 a8 a9 a10 a11 a12 t13 t14 a15 a16 t17 n (nI (jp_sm (fun i => (fun b => (G b - jp_due (jp_L r lv gone b) q).natAbs) (jp_blk i)) 0 i)) (nI i)) (fun _ _ => True) 256 0 () (by omega) trivial ?_ ?_
  · intro n _ _
    exact pk_le 256 256 (fun _ => hfin) (fun z => absurd z (by omega))
  · intro n i _ hi _ hw
    have W := hw () trivial
    rw [jp_sm_s, Nat.zero_add] at W
    have hb := (jp_blk_at hi).1
    have q1 := hG _ hb
    have q2 := jp_due_in (jp_L r lv gone (jp_blk i)) q
    refine pk_le 256 i (fun z => absurd z (by omega)) (fun _ => ⟨pk_in i 256 hi, pk_in i 256 hi, ?_⟩)
    rw [nI_clamp (by omega), hpic i hi, jp_shown_at g2 hi]
    refine nm_r (jp_zsub _ _) (jp_ble 0 (G (jp_blk i) - jp_due (jp_L r lv gone (jp_blk i)) q) (fun z => nm_r ?_ (nm_r (nI_1 i) W)) (fun z => nm_r ?_ (nm_r (nI_1 i) W)))
    · rw [show jp_z (G (jp_blk i) - jp_due (jp_L r lv gone (jp_blk i)) q) = nI (G (jp_blk i) - jp_due (jp_L r lv gone (jp_blk i)) q).natAbs by rw [← jp_zn]; exact congrArg jp_z (by omega), nI_add]
    · rw [jp_zneg, show jp_z (-(G (jp_blk i) - jp_due (jp_L r lv gone (jp_blk i)) q)) = nI (G (jp_blk i) - jp_due (jp_L r lv gone (jp_blk i)) q).natAbs by rw [← jp_zn]; exact congrArg jp_z (by omega), nI_add]
theorem jq_adopt {post : Int32 → St2 → Prop} {f1 f2 f6 f7 f8 f9 f10 f11 : Int32} {a1 a2 a3 a4 a5 a6 a7 a8 a9 a10 a11 a12 a13 a14 a15 a16 : Nat → Int32} {a17 : Nat → Int64} {r q c0 l0 : Nat} {lv : Nat → Int} {cd cl : Nat → Nat} {B : Nat → Nat → Nat} {m T : Nat → Nat} {gone : Nat → Bool} {G : Nat → Int} (he : jp_env r q lv cd cl c0 l0 B m T a2 a9 a10 a11 a12) (hok : jp_ok r q lv B m gone f11 a5 a13 a14) (hG : ∀ b, b < 4 → 0 ≤ G b ∧ G b ≤ 255) (hpic : ∀ i, i < 256 → a1 i = jp_z (G (jp_blk i)))
    (H : ∀ (s : Int32 × Int32 × Int32 × Int32 × Int32 × (Nat → Int32) × (Nat → Int32) × (Nat → Int64)) (t1 : Nat → Int32), jp_ok r q lv B m gone s.2.2.2.2.1 a5 s.2.2.2.2.2.1 s.2.2.2.2.2.2.1 → (∀ i, i < 256 → t1 i = jp_z (jp_due (jp_L r lv gone (jp_blk i)) q)) → post (nI (64 * ((G 0 - jp_due (jp_L r lv gone 0) q).natAbs + (G 1 - jp_due (jp_L r lv gone 1) q).natAbs + (G 2 - jp_due (jp_L r lv gone 2) q).natAbs + (G 3 - jp_due (jp_L r lv gone 3) q).natAbs))) (f1, f2, (nI q), (nI r), (nI (jp_P B m gone (3 / r + 1))), f6, s.1, s.2.1, s.2.2.1, s.2.2.2.1, s.2.2.2.2.1, t1, a2, a3, a4, a5, a6, a7, a8, a9, a10, a11, a12, s.2.2.2.2.2.1, s.2.2.2.2.2.2.1, a15, a16, s.2.2.2.2.2.2.2)) :
    wpX_adopt post (f1, f2, (nI q), (nI r), (nI (jp_P B m gone (3 / r + 1))), f6, f7, f8, f9, f10, f11, a1, a2, a3, a4, a5, a6, a7, a8, a9, a10, a11, a12, a13, a14, a15, a16, a17) := by
  refine jq_difference (G := G) he hok hG hpic (fun s h g => ?_)
  refine pk_loop (fun n k (t : Nat → Int32) => wX_adopt_7 post (nI (64 * ((G 0 - jp_due (jp_L r lv gone 0) q).natAbs + (G 1 - jp_due (jp_L r lv gone 1) q).natAbs + (G 2 - jp_due (jp_L r lv gone 2) q).natAbs + (G 3 - jp_due (jp_L r lv gone 3) q).natAbs))) f1 f2 (nI q) (nI r) (nI (jp_P B m gone (3 / r + 1))) f6 s.1 s.2.1 s.2.2.1 s.2.2.2.1 s.2.2.2.2.1 n (nI k) t a2 a3 a4 a5 a6 a7 a8 a9 a10 a11 a12 s.2.2.2.2.2.1 s.2.2.2.2.2.2.1 a15 a16 s.2.2.2.2.2.2.2) (fun k t => ∀ i, i < k → t i = jp_z (jp_due (jp_L r lv gone (jp_blk i)) q)) 256 0 a1 (by omega) (fun i hi => absurd hi (by omega)) ?_ ?_
  · intro n t ht
    exact pk_le 256 256 (fun _ => H s t h ht) (fun z => absurd z (by omega))
  · intro n k t hk ht hw
    refine pk_le 256 k (fun z => absurd z (by omega)) (fun _ => ⟨pk_in k 256 hk, pk_in k 256 hk, ?_⟩)
    rw [nI_clamp (by omega), jp_shown_at g hk]
    refine nm_e (nm_r (nI_1 k) (hw _ (fun i hi => ?_)))
    by_cases e : i = k
    · rw [e, pk_us]
    · rw [pk_un e]; exact ht i (by omega)
end
section
/-! the law -/
theorem jq_llevel {post : Int32 → Prop} {g q : Nat} (hg : g < 256) (q1 : 1 ≤ q) (q8 : q ≤ 8) (H : post (jp_z (jp_lvl ((g : Int) - 128) q))) : wpL_level post () (nI g) (nI q) := by
  have main : ∀ (x : Int32) (a : Nat), a = ((g : Int) - 128).natAbs → x = nI a → wL_level_20 post (nI g) (nI q) x := by
    intro x a ha hx
    subst hx
    have e2 : (2 : Int32) * nI q = nI (2 * q) := pk_mul 2 q
    have e3 : ((32 * nI a) + nI q) / (2 * nI q) = nI ((32 * a + q) / (2 * q)) := by
      rw [e2, show (32 : Int32) * nI a = nI (32 * a) from pk_mul 32 a, nI_add, pk_div (by omega) (by omega) (by omega)]
    refine ⟨by rw [e2]; exact nI_ne0 (by omega) (by omega), ?_⟩
    rw [e3, ha]
    unfold jp_lvl at H
    refine nm_e (pk_le 128 g (fun z => ?_) (fun z => ?_))
    · rw [if_neg (by omega), jp_zn] at H
      exact H
    · rw [if_pos (by omega), ← jp_zneg, jp_zn] at H
      exact H
  refine pk_le 128 g (fun z => main _ (g - 128) (by omega) (pk_sub (a := g) (b := 128) z)) (fun z => main _ (128 - g) (by omega) (pk_sub (a := 128) (b := g) (by omega)))
theorem jq_lshown {post : Int32 → Prop} {l : Int} {q : Nat} (h1 : -4096 ≤ l) (h2 : l ≤ 4096) (hq : q ≤ 8) (H : post (jp_z (jp_due l q))) : wpL_shown post () (jp_z l) (nI q) := by
  obtain ⟨b1, b2⟩ := jp_lq h1 h2 hq
  have e : ((jp_z l * nI q) + 8) >>> ((4 : Int32) &&& 31) = jp_z ((l * q + 8) / 16) := by
    rw [← jp_zn, show (8 : Int32) = jp_z 8 from rfl, jp_zmul, jp_zadd]
    apply Int32.toInt_inj.mp
    rw [pk_shr _ _ 4 (by decide), jp_zt (by omega) (by omega), jp_zt (by omega) (by omega), Int.shiftRight_eq_div_pow]
    rfl
  have hz : -100000 ≤ (l * (q : Int) + 8) / 16 ∧ (l * (q : Int) + 8) / 16 ≤ 100000 := by omega
  unfold jp_due at H
  generalize (l * (q : Int) + 8) / 16 = z at *
  refine nm_r e (jp_ble (-128) z (fun y => jp_ble z 127 (fun y2 => ?_) (fun y2 => ?_)) (fun y => ?_))
  · rw [if_neg (by omega), if_neg (by omega), ← jp_zadd] at H
    exact H
  · rw [if_neg (by omega), if_pos (by omega)] at H
    exact H
  · rw [if_pos (by omega)] at H
    exact H
theorem jp_xy : ∀ k, k < 4 → (8 * (nI k &&& 1)) + 7 = nI (8 * (k % 2) + 7) ∧ 8 * (nI k >>> ((1 : Int32) &&& 31)) = nI (8 * (k / 2)) ∧ jp_blk (8 * (k / 2) * 16 + (8 * (k % 2) + 7)) = k := by decide +kernel
theorem jq_l284 {post : Int32 → St0 → Prop} {mc ms kc ks : Nat} {J : Int32 → Int32 → Int32 → Int32 → Int32 → Int32 → Int32 → Int32 → Int32 → Int32 → Int32 → Int32 → Int32 → Int32 → Int32 → Int32 → (Nat → Int32) → (Nat → Int32) → (Nat → Int32) → (Nat → Int32) → (Nat → Int32) → (Nat → Int32) → (Nat → Int32) → (Nat → Int32) → (Nat → Int32) → (Nat → Int32) → (Nat → Int32) → (Nat → Int32) → (Nat → Int32) → (Nat → Int32) → (Nat → Int32) → (Nat → Int32) → (Nat → Int64) → Prop} {x4 x5 x6 x7 x8 x9 x10 x11 x12 x13 x14 x15 x20 x21 : Int32} {f1 f2 f6 f7 f8 f9 f10 f11 : Int32} {a1 a2 a3 a4 a5 a6 a7 a8 a9 a10 a11 a12 a13 a14 a15 a16 : Nat → Int32} {a17 : Nat → Int64} {r q c0 l0 k g gp : Nat} {lv : Nat → Int} {cd cl : Nat → Nat} {B : Nat → Nat → Nat} {m T : Nat → Nat} {gone : Nat → Bool} (he : jp_env r q lv cd cl c0 l0 B m T a2 a9 a10 a11 a12) (hok : jp_ok r q lv B m gone f11 a5 a13 a14) (hk : k < 4) (hg : g < 256) (h0 : x21 = 0 → x20 = jp_z (jp_L r lv gone k)) (h1 : ¬ x21 = 0 → jp_L r lv gone k = 0)
    (H : ∀ s : Int32 × Int32 × Int32 × Int32 × Int32 × (Nat → Int32) × (Nat → Int32) × (Nat → Int64), jp_ok r q lv B m gone s.2.2.2.2.1 a5 s.2.2.2.2.2.1 s.2.2.2.2.2.2.1 → J x14 x15 (nI (gp + 64 * ((g : Int) - jp_due (jp_L r lv gone k) q).natAbs)) 1 (nI (k + 1)) f1 f2 (nI q) (nI r) (nI (jp_P B m gone (3 / r + 1))) f6 s.1 s.2.1 s.2.2.1 s.2.2.2.1 s.2.2.2.2.1 a1 a2 a3 a4 a5 a6 a7 a8 a9 a10 a11 a12 s.2.2.2.2.2.1 s.2.2.2.2.2.2.1 a15 a16 s.2.2.2.2.2.2.2) :
    wL_lawOf_284 post mc ms J x4 x5 x6 x7 x8 x9 x10 x11 x12 x13 x14 x15 (nI gp) 1 (nI k) (nI g) x20 x21 (jp_z (jp_due (jp_L r lv gone k) q)) kc ks f1 f2 (nI q) (nI r) (nI (jp_P B m gone (3 / r + 1))) f6 f7 f8 f9 f10 f11 a1 a2 a3 a4 a5 a6 a7 a8 a9 a10 a11 a12 a13 a14 a15 a16 a17 := by
  have hd := jp_due_in (jp_L r lv gone k) q
  obtain ⟨ex, ey, eb⟩ := jp_xy k hk
  have main : ∀ x : Int32, x = nI ((g : Int) - jp_due (jp_L r lv gone k) q).natAbs → wL_lawOf_310 post mc ms J x4 x5 x6 x7 x8 x9 x10 x11 x12 x13 x14 x15 1 (nI k) x20 x21 (jp_z (jp_due (jp_L r lv gone k) q)) x 64 (nI gp) kc ks f1 f2 (nI q) (nI r) (nI (jp_P B m gone (3 / r + 1))) f6 f7 f8 f9 f10 f11 a1 a2 a3 a4 a5 a6 a7 a8 a9 a10 a11 a12 a13 a14 a15 a16 a17 := by
    intro x hx
    subst hx
    refine nm_r (e' := nI (gp + 64 * ((g : Int) - jp_due (jp_L r lv gone k) q).natAbs)) ?_ (br_f (by decide) (jq_level he hok hk (fun s hs => ?_)))
    · rw [show (64 : Int32) * nI ((g : Int) - jp_due (jp_L r lv gone k) q).natAbs = nI (64 * ((g : Int) - jp_due (jp_L r lv gone k) q).natAbs) from pk_mul 64 _, nI_add]
    · have fin : ∀ z0 : Int32, jp_z (jp_L r lv gone k) = z0 → wL_lawOf_338 post mc ms J x4 x5 x6 x7 x8 x9 x10 x11 x12 x13 x14 x15 (nI (gp + 64 * ((g : Int) - jp_due (jp_L r lv gone k) q).natAbs)) (nI k) (jp_z (jp_due (jp_L r lv gone k) q)) z0 (jp_z (jp_L r lv gone k)) kc ks f1 f2 (nI q) (nI r) (nI (jp_P B m gone (3 / r + 1))) f6 s.1 s.2.1 s.2.2.1 s.2.2.2.1 s.2.2.2.2.1 a1 a2 a3 a4 a5 a6 a7 a8 a9 a10 a11 a12 s.2.2.2.2.2.1 s.2.2.2.2.2.2.1 a15 a16 s.2.2.2.2.2.2.2 := by
        intro z0 hz
        refine br_t hz ?_
        rw [ex, ey]
        refine jq_show he hs (by omega) (by omega) (fun s' hs' => ?_)
        rw [eb]
        exact br_t rfl (nm_r (nI_1 k) (H s' hs'))
      exact br_c (fun z => fin _ (h0 z).symm) (fun z => fin _ (by rw [h1 z]; rfl))
  refine jp_ble (jp_due (jp_L r lv gone k) q) (g : Int) (fun z => main _ ?_) (fun z => main _ ?_) rfl (jp_zn g).symm
  · rw [← jp_zn g, jp_zsub, ← jp_zn]
    exact congrArg jp_z (by omega)
  · rw [← jp_zn g, jp_zsub, ← jp_zn]
    exact congrArg jp_z (by omega)
theorem jq_l198 {post : Int32 → St0 → Prop} {mc ms kc ks : Nat} {J : Int32 → Int32 → Int32 → Int32 → Int32 → Int32 → Int32 → Int32 → Int32 → Int32 → Int32 → Int32 → Int32 → Int32 → Int32 → Int32 → (Nat → Int32) → (Nat → Int32) → (Nat → Int32) → (Nat → Int32) → (Nat → Int32) → (Nat → Int32) → (Nat → Int32) → (Nat → Int32) → (Nat → Int32) → (Nat → Int32) → (Nat → Int32) → (Nat → Int32) → (Nat → Int32) → (Nat → Int32) → (Nat → Int32) → (Nat → Int32) → (Nat → Int64) → Prop} {x7 x8 x9 x10 x11 x12 x13 : Int32} {f1 f2 f6 f7 f8 f9 f10 f11 : Int32} {a1 a2 a3 a4 a5 a6 a7 a8 a9 a10 a11 a12 a13 a14 a15 a16 : Nat → Int32} {a17 : Nat → Int64} {r q c0 l0 k g gp b n1 n2 : Nat} {lv : Nat → Int} {cd cl : Nat → Nat} {B : Nat → Nat → Nat} {m T : Nat → Nat} {gone : Nat → Bool} (he : jp_env r q lv cd cl c0 l0 B m T a2 a9 a10 a11 a12) (hok : jp_ok r q lv B m gone f11 a5 a13 a14) (hk : k < 4) (hb : b < 4) (hg : g < 256) (hl : lv k = jp_lvl ((g : Int) - 128) q) (hgo : jp_L r lv gone k = if k / r = b / r then 0 else lv k)
    (H : ∀ s : Int32 × Int32 × Int32 × Int32 × Int32 × (Nat → Int32) × (Nat → Int32) × (Nat → Int64), jp_ok r q lv B m gone s.2.2.2.2.1 a5 s.2.2.2.2.2.1 s.2.2.2.2.2.2.1 → J (nI (n1 + (if lv k = 0 then 0 else 1))) (nI (n2 + (if k / r = b / r then (if lv k = 0 then 0 else 1) else 0))) (nI (gp + 64 * ((g : Int) - jp_due (jp_L r lv gone k) q).natAbs)) 1 (nI (k + 1)) f1 f2 (nI q) (nI r) (nI (jp_P B m gone (3 / r + 1))) f6 s.1 s.2.1 s.2.2.1 s.2.2.2.1 s.2.2.2.2.1 a1 a2 a3 a4 a5 a6 a7 a8 a9 a10 a11 a12 s.2.2.2.2.2.1 s.2.2.2.2.2.2.1 a15 a16 s.2.2.2.2.2.2.2) :
    wL_lawOf_198 post mc ms J (nI q) (nI r) (nI b) x7 x8 x9 x10 x11 x12 x13 (nI n1) (nI n2) (nI gp) 1 (nI k) (nI g) kc ks f1 f2 (nI q) (nI r) (nI (jp_P B m gone (3 / r + 1))) f6 f7 f8 f9 f10 f11 a1 a2 a3 a4 a5 a6 a7 a8 a9 a10 a11 a12 a13 a14 a15 a16 a17 := by
  have he' := he
  obtain ⟨r1, r4, q1, q8, _, _, _, hlv, _⟩ := he'
  have hlk := hlv k hk
  have e264 : ∀ (x14 x15 x21 : Int32), x14 = nI (n1 + (if lv k = 0 then 0 else 1)) → x15 = nI (n2 + (if k / r = b / r then (if lv k = 0 then 0 else 1) else 0)) → x21 = (if k / r = b / r then 1 else 0) → wL_lawOf_264 post mc ms J (nI q) (nI r) (nI b) x7 x8 x9 x10 x11 x12 x13 x14 (nI gp) 1 (nI k) (nI g) (jp_z (lv k)) x21 x15 kc ks f1 f2 (nI q) (nI r) (nI (jp_P B m gone (3 / r + 1))) f6 f7 f8 f9 f10 f11 a1 a2 a3 a4 a5 a6 a7 a8 a9 a10 a11 a12 a13 a14 a15 a16 a17 := by
    intro x14 x15 x21 h14 h15 h21
    subst h14 h15
    by_cases e : k / r = b / r
    · rw [if_pos e] at h21
      subst h21
      have hL : jp_L r lv gone k = 0 := by rw [hgo, if_pos e]
      refine br_f (by decide) ?_
      rw [show (128 : Int32) = jp_z (jp_due (jp_L r lv gone k) q) by rw [hL]; unfold jp_due; rw [Int.zero_mul]; rfl]
      exact jq_l284 he hok hk hg (fun z => absurd z (by decide)) (fun _ => hL) H
    · rw [if_neg e] at h21
      subst h21
      have hL : jp_L r lv gone k = lv k := by rw [hgo, if_neg e]
      refine br_t rfl (jq_lshown hlk.1 hlk.2 q8 ?_)
      rw [show jp_z (jp_due (lv k) q) = jp_z (jp_due (jp_L r lv gone k) q) by rw [hL]]
      exact jq_l284 he hok hk hg (fun _ => by rw [hL]) (fun z => absurd rfl z) H
  have e227 : ∀ x21 : Int32, x21 = (if k / r = b / r then 1 else 0) → wL_lawOf_227 post mc ms J (nI q) (nI r) (nI b) x7 x8 x9 x10 x11 x12 x13 (nI n1) (nI n2) (nI gp) 1 (nI k) (nI g) (jp_z (lv k)) x21 kc ks f1 f2 (nI q) (nI r) (nI (jp_P B m gone (3 / r + 1))) f6 f7 f8 f9 f10 f11 a1 a2 a3 a4 a5 a6 a7 a8 a9 a10 a11 a12 a13 a14 a15 a16 a17 := by
    intro x21 h21
    by_cases z : lv k = 0
    · have z' : jp_z (lv k) = 0 := by rw [z]; rfl
      refine br_t z' (br_t z' (e264 _ _ _ ?_ ?_ h21))
      · rw [if_pos z]; rfl
      · rw [if_pos z]
        by_cases e : k / r = b / r
        · rw [if_pos e]; rfl
        · rw [if_neg e]; rfl
    · have z' : ¬ jp_z (lv k) = 0 := fun y => z ((jp_zeq (by omega) (by omega)).mp (y.trans jp_z0))
      refine br_f z' (br_f z' ?_)
      by_cases e : k / r = b / r
      · refine br_f (by rw [h21, if_pos e]; decide) (e264 _ _ _ ?_ ?_ h21)
        · rw [if_neg z]; exact nI_1 n1
        · rw [if_pos e, if_neg z]; exact nI_1 n2
      · refine br_t (by rw [h21, if_neg e]) (e264 _ _ _ ?_ ?_ h21)
        · rw [if_neg z]; exact nI_1 n1
        · rw [if_neg e]; rfl
  have hne : ¬ nI r = 0 := nI_ne0 (by omega) (by omega)
  have hkr := jp_seg_le r1 r4 hk
  have hbr := jp_seg_le r1 r4 hb
  refine jq_llevel hg q1 q8 ?_
  rw [← hl]
  refine ⟨hne, hne, pk_eq (k / r) (b / r) (fun z => e227 _ (by rw [if_pos z])) (fun z => e227 _ (by rw [if_neg z])) (pk_div (by omega) (by omega) (by omega)) (pk_div (by omega) (by omega) (by omega))⟩
end
section
/-! the law's loop, and the top -/
def jp_gp (G D : Nat → Int) : Nat → Nat
  | 0 => 0
  | k + 1 => jp_gp G D k + 64 * (G k - D k).natAbs
theorem jp_gp4 (G D : Nat → Int) : jp_gp G D 4 = 64 * ((G 0 - D 0).natAbs + (G 1 - D 1).natAbs + (G 2 - D 2).natAbs + (G 3 - D 3).natAbs) := by
  show 0 + 64 * (G 0 - D 0).natAbs + 64 * (G 1 - D 1).natAbs + 64 * (G 2 - D 2).natAbs + 64 * (G 3 - D 3).natAbs = _
  omega
theorem jq_l158 {post : Int32 → St0 → Prop} {mc ms kc ks : Nat} {f1 f2 f6 f7 f8 f9 f10 f11 : Int32} {a1 a2 a3 a4 a5 a6 a7 a8 a9 a10 a11 a12 a13 a14 a15 a16 : Nat → Int32} {a17 : Nat → Int64} {r q c0 l0 b : Nat} {g : Nat → Nat} {lv : Nat → Int} {cd cl : Nat → Nat} {B : Nat → Nat → Nat} {m T : Nat → Nat} {gone : Nat → Bool} (he : jp_env r q lv cd cl c0 l0 B m T a2 a9 a10 a11 a12) (hok : jp_ok r q lv B m gone f11 a5 a13 a14) (hb : b < 4) (hg : ∀ k, k < 4 → g k < 256) (hl : ∀ k, k < 4 → lv k = jp_lvl ((g k : Int) - 128) q) (hgo : ∀ k, k < 4 → jp_L r lv gone k = if k / r = b / r then 0 else lv k) (hpic : ∀ i, i < 256 → a1 i = jp_z ((g (jp_blk i) : Int)))
    (Hp : post 1 ()) :
    ∃ fu, wL_lawOf_158 post mc ms (nI q) (nI r) (nI b) (nI (g 0)) (nI (g 1)) (nI (g 2)) (nI (g 3)) (nI (jp_sc lv 4)) (nI (jp_lc r lv (b / r) 4)) 0 kc ks fu 0 0 0 1 0 f1 f2 (nI q) (nI r) (nI (jp_P B m gone (3 / r + 1))) f6 f7 f8 f9 f10 f11 a1 a2 a3 a4 a5 a6 a7 a8 a9 a10 a11 a12 a13 a14 a15 a16 a17 := by
  refine pk_loop (fun n k (s : Int32 × Int32 × Int32 × Int32 × Int32 × (Nat → Int32) × (Nat → Int32) × (Nat → Int64)) => wL_lawOf_158 post mc ms (nI q) (nI r) (nI b) (nI (g 0)) (nI (g 1)) (nI (g 2)) (nI (g 3)) (nI (jp_sc lv 4)) (nI (jp_lc r lv (b / r) 4)) 0 kc ks n (nI (jp_sc lv k)) (nI (jp_lc r lv (b / r) k)) (nI (jp_gp (fun k => (g k : Int)) (fun k => jp_due (jp_L r lv gone k) q) k)) 1 (nI k) f1 f2 (nI q) (nI r) (nI (jp_P B m gone (3 / r + 1))) f6 s.1 s.2.1 s.2.2.1 s.2.2.2.1 s.2.2.2.2.1 a1 a2 a3 a4 a5 a6 a7 a8 a9 a10 a11 a12 s.2.2.2.2.2.1 s.2.2.2.2.2.2.1 a15 a16 s.2.2.2.2.2.2.2) (fun k s => jp_ok r q lv B m gone s.2.2.2.2.1 a5 s.2.2.2.2.2.1 s.2.2.2.2.2.2.1) 4 0 (f7, f8, f9, f10, f11, a13, a14, a17) (by omega) hok ?_ ?_
  · intro n s h
    refine pk_le 4 4 (fun _ => ?_) (fun z => absurd z (by omega))
    refine jq_difference (G := fun k => (g k : Int)) he h (fun b hb => by have := hg b hb; omega) hpic (fun s1 h1 _ => ?_)
    refine jq_adopt (G := fun k => (g k : Int)) he h1 (fun b hb => by have := hg b hb; omega) hpic (fun s2 t1 h2 ht1 => ?_)
    rw [jp_gp4]
    refine br_f (by decide) (br_t rfl (br_t rfl (br_t rfl (br_t rfl (br_t rfl ?_)))))
    refine jq_difference (G := fun k => jp_due (jp_L r lv gone k) q) he h2 (fun b _ => jp_due_in _ q) ht1 (fun s3 h3 _ => br_t ?_ Hp)
    rw [Int.sub_self, Int.sub_self, Int.sub_self, Int.sub_self]
    rfl
  · intro n k s hk h hw
    have key : ∀ x : Int32, x = nI (g k) → wL_lawOf_198 post mc ms (wL_lawOf_158 post mc ms (nI q) (nI r) (nI b) (nI (g 0)) (nI (g 1)) (nI (g 2)) (nI (g 3)) (nI (jp_sc lv 4)) (nI (jp_lc r lv (b / r) 4)) 0 kc ks n) (nI q) (nI r) (nI b) (nI (g 0)) (nI (g 1)) (nI (g 2)) (nI (g 3)) (nI (jp_sc lv 4)) (nI (jp_lc r lv (b / r) 4)) 0 (nI (jp_sc lv k)) (nI (jp_lc r lv (b / r) k)) (nI (jp_gp (fun k => (g k : Int)) (fun k => jp_due (jp_L r lv gone k) q) k)) 1 (nI k) x kc ks f1 f2 (nI q) (nI r) (nI (jp_P B m gone (3 / r + 1))) f6 s.1 s.2.1 s.2.2.1 s.2.2.2.1 s.2.2.2.2.1 a1 a2 a3 a4 a5 a6 a7 a8 a9 a10 a11 a12 s.2.2.2.2.2.1 s.2.2.2.2.2.2.1 a15 a16 s.2.2.2.2.2.2.2 := by
      intro x hx
      subst hx
      exact jq_l198 he h hk hb (hg k hk) (hl k hk) (hgo k hk) (fun s' h' => hw s' h')
    refine pk_le 4 k (fun z => absurd z (by omega)) (fun _ => pk_eq k 0 (fun z => key _ (by rw [z])) (fun z => pk_eq k 1 (fun z1 => key _ (by rw [z1])) (fun z1 => pk_eq k 2 (fun z2 => key _ (by rw [z2])) (fun z2 => key _ (by rw [show k = 3 by omega])))))
theorem jp_lc_congr {r s : Nat} {L L' : Nat → Int} : ∀ n, (∀ k, k < n → k / r = s → L k = L' k) → jp_lc r L s n = jp_lc r L' s n := by
  intro n
  induction n with
  | zero => intro _; rfl
  | succ n ih =>
    intro h
    show jp_lc r L s n + (if n / r = s then (if L n = 0 then 0 else 1) else 0) = jp_lc r L' s n + (if n / r = s then (if L' n = 0 then 0 else 1) else 0)
    rw [ih (fun k hk => h k (by omega))]
    by_cases e : n / r = s
    · rw [h n (by omega) e]
    · rw [if_neg e, if_neg e]
theorem jp_lc_0 {r s : Nat} {L : Nat → Int} : ∀ n, (∀ k, k < n → k / r = s → L k = 0) → jp_lc r L s n = 0 := by
  intro n
  induction n with
  | zero => intro _; rfl
  | succ n ih =>
    intro h
    show jp_lc r L s n + (if n / r = s then (if L n = 0 then 0 else 1) else 0) = 0
    rw [ih (fun k hk => h k (by omega))]
    by_cases e : n / r = s
    · rw [if_pos e, if_pos (h n (by omega) e)]
    · rw [if_neg e]
theorem jp_pic {g : Nat → Nat} {t0 t1 t2 t3 t4 : Nat → Int32} (h1 : ∀ y x, y < 16 → x < 16 → t1 (y * 16 + x) = if 0 ≤ y ∧ 0 ≤ x then nI (g 0) else t0 (y * 16 + x)) (h2 : ∀ y x, y < 16 → x < 16 → t2 (y * 16 + x) = if 0 ≤ y ∧ 8 ≤ x then nI (g 1) else t1 (y * 16 + x)) (h3 : ∀ y x, y < 16 → x < 16 → t3 (y * 16 + x) = if 8 ≤ y ∧ 0 ≤ x then nI (g 2) else t2 (y * 16 + x)) (h4 : ∀ y x, y < 16 → x < 16 → t4 (y * 16 + x) = if 8 ≤ y ∧ 8 ≤ x then nI (g 3) else t3 (y * 16 + x)) :
    ∀ i, i < 256 → t4 i = jp_z ((g (jp_blk i) : Int)) := by
  intro i hi
  rw [jp_zn]
  have e : i = i / 16 * 16 + i % 16 := by omega
  have q1 := h1 (i / 16) (i % 16) (by omega) (by omega)
  have q2 := h2 (i / 16) (i % 16) (by omega) (by omega)
  have q3 := h3 (i / 16) (i % 16) (by omega) (by omega)
  have q4 := h4 (i / 16) (i % 16) (by omega) (by omega)
  rw [← e] at q1 q2 q3 q4
  rw [q4, q3, q2, q1]
  by_cases y : 8 ≤ i / 16
  · by_cases x : 8 ≤ i % 16
    · rw [if_pos ⟨y, x⟩, show jp_blk i = 3 by unfold jp_blk; omega]
    · rw [if_neg (fun z => x z.2), if_pos ⟨y, Nat.zero_le _⟩, show jp_blk i = 2 by unfold jp_blk; omega]
  · by_cases x : 8 ≤ i % 16
    · rw [if_neg (fun z => y z.1), if_neg (fun z => y z.1), if_pos ⟨Nat.zero_le _, x⟩, show jp_blk i = 1 by unfold jp_blk; omega]
    · rw [if_neg (fun z => y z.1), if_neg (fun z => y z.1), if_neg (fun z => x z.2), if_pos ⟨Nat.zero_le _, Nat.zero_le _⟩, show jp_blk i = 0 by unfold jp_blk; omega]
theorem jq_lawOf {post : Int32 → St0 → Prop} (p0 p1 p2 : Int32) (Hp : post 1 ()) : wpL_lawOf post 18 4967 () p0 p1 p2 := by
  obtain ⟨jq, hjq, eq⟩ := pk_andE p1 (m := 7) 3 (by decide)
  obtain ⟨jr, hjr, er⟩ := pk_andE (p1 >>> ((3 : Int32) &&& 31)) (m := 3) 2 (by decide)
  obtain ⟨b, hb, eb⟩ := pk_andE p2 (m := 3) 2 (by decide)
  obtain ⟨g0, hg0, e0⟩ := pk_andE p0 (m := 255) 8 (by decide)
  obtain ⟨g1, hg1, e1⟩ := pk_andE (p0 >>> ((8 : Int32) &&& 31)) (m := 255) 8 (by decide)
  obtain ⟨g2, hg2, e2⟩ := pk_andE (p0 >>> ((16 : Int32) &&& 31)) (m := 255) 8 (by decide)
  obtain ⟨g3, hg3, e3⟩ := pk_andE (p0 >>> ((24 : Int32) &&& 31)) (m := 255) 8 (by decide)
  obtain ⟨g, y0, y1, y2, y3, hg⟩ : ∃ g : Nat → Nat, g 0 = g0 ∧ g 1 = g1 ∧ g 2 = g2 ∧ g 3 = g3 ∧ ∀ k, g k < 256 := by
    refine ⟨fun k => if k = 0 then g0 else if k = 1 then g1 else if k = 2 then g2 else g3, rfl, rfl, rfl, rfl, fun k => ?_⟩
    show (if k = 0 then g0 else if k = 1 then g1 else if k = 2 then g2 else g3) < 256
    split
    · exact hg0
    · split
      · exact hg1
      · split
        · exact hg2
        · exact hg3
  rw [← y0] at e0
  rw [← y1] at e1
  rw [← y2] at e2
  rw [← y3] at e3
  have hb4 : b < 4 := hb
  have hq8 : jq < 8 := hjq
  have hr4 : jr < 4 := hjr
  refine ⟨by omega, by omega, 17, 4939, by omega, by omega, jq_init (by omega) (by omega) (fun hq ho => ?_)⟩
  refine nm_r (e' := nI (1 + jq)) (by rw [eq]; exact nI_add 1 jq) (nm_r (e' := nI (1 + jr)) (by rw [er]; exact nI_add 1 jr) (nm_r eb (nm_r e0 (nm_r e1 (nm_r e2 (nm_r e3 ?_))))))
  refine jq_fill (x0 := 0) (y0 := 0) (by omega) (by omega) (hg 0) (fun t1 h1 => ?_)
  refine jq_fill (x0 := 8) (y0 := 0) (by omega) (by omega) (hg 1) (fun t2 h2 => ?_)
  refine jq_fill (x0 := 0) (y0 := 8) (by omega) (by omega) (hg 2) (fun t3 h3 => ?_)
  refine jq_fill (x0 := 8) (y0 := 8) (by omega) (by omega) (hg 3) (fun t4 h4 => ?_)
  have hpic := jp_pic h1 h2 h3 h4
  refine jq_quality (by omega) (by omega) (jq_interval (by omega) (by omega) ?_)
  refine jq_store (hh := fun k => (g k : Int) - 128) (by omega) (by omega) (by omega) (by omega) (fun k _ => by have := hg k; omega) hq ho (fun k hk j i hj hi => ?_) (fun cd cl c0 l0 B m T s u4 u5 u6 u7 u8 u9 u10 u11 u12 u15 u16 he hok => ?_)
  · obtain ⟨z1, z2⟩ := jp_blk_co hk hj hi
    rw [hpic _ z2, z1]
    exact congrArg jp_z (by omega)
  refine jq_lose he hok hb4 (fun s1 v5 hok1 => ?_)
  refine jq_lose he hok1 hb4 (fun s2 w5 hok2 => ?_)
  have eL0 : ∀ k, jp_L (1 + jr) (fun k => jp_lvl ((g k : Int) - 128) (1 + jq)) (fun _ => false) k = jp_lvl ((g k : Int) - 128) (1 + jq) := fun k => if_neg (show ¬ false = true by decide)
  have c1 : jp_lc (1 + jr) (jp_L (1 + jr) (fun k => jp_lvl ((g k : Int) - 128) (1 + jq)) (fun _ => false)) (b / (1 + jr)) 4 = jp_lc (1 + jr) (fun k => jp_lvl ((g k : Int) - 128) (1 + jq)) (b / (1 + jr)) 4 := jp_lc_congr 4 (fun k _ _ => eL0 k)
  have c2 : jp_lc (1 + jr) (jp_L (1 + jr) (fun k => jp_lvl ((g k : Int) - 128) (1 + jq)) (jp_go (fun _ => false) (b / (1 + jr)))) (b / (1 + jr)) 4 = 0 := jp_lc_0 4 (fun k _ e => by
    unfold jp_L
    rw [e, if_pos (jp_go_y _ _)])
  rw [c1, c2]
  refine jq_l158 he hok2 hb4 (fun k _ => hg k) (fun k _ => rfl) (fun k _ => ?_) hpic Hp
  unfold jp_L
  by_cases e : k / (1 + jr) = b / (1 + jr)
  · rw [if_pos e, e, if_pos (jp_go_y _ _)]
  · rw [if_neg e, jp_go_n _ e, jp_go_n _ e, if_neg (by decide)]
theorem jq_cellAt {post : Int32 → Prop} {L : Nat} {xs : Nat → Int32} (hL : L ≤ 3) (p : Nat) (hp : p ≤ 2) (H : ∀ x, post x) : wpL_cellAt post L xs () (nI p) := pk_le L p (fun _ => H 0) (fun z => ⟨pk_in p L z, H _⟩)
theorem i_vc (xs : Nat → Int32) (L : Nat) (hL : L ≤ 3) : wpL_law (fun r => r = 1) L xs := by
  unfold wpL_law
  exact jq_cellAt hL 0 (by omega) (fun x0 => jq_cellAt hL 1 (by omega) (fun x1 => jq_cellAt hL 2 (by omega) (fun x2 => ⟨18, 4967, by omega, by omega, jq_lawOf x0 x1 x2 rfl⟩)))
end
