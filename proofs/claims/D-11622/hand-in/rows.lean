section
/-! ===== plain numbers ===== -/
theorem du_p10 {a b : Nat} (h : a ≤ b) : 10 ^ a ≤ 10 ^ b := Nat.pow_le_pow_right (by decide) h
theorem du_p0 (a : Nat) : 0 < 10 ^ a := Nat.pow_pos (by decide)
theorem du_p63 {j : Nat} (h : j ≤ 18) : 10 ^ j < 2 ^ 63 := Nat.lt_of_le_of_lt (du_p10 h) (by decide)
theorem du_l63 {n : Nat} (h : n < 10 ^ 18) : n < 2 ^ 63 := Nat.lt_trans h (by decide)
theorem du_split (A : Nat) {u t : Nat} (h : t ≤ u) : A * 10 ^ u = A * 10 ^ (u - t) * 10 ^ t := by
  rw [Nat.mul_assoc, ← Nat.pow_add, Nat.sub_add_cancel h]
theorem du_dd (A B : Nat) {u t : Nat} (h : t ≤ u) : A * 10 ^ u / B / 10 ^ t = A * 10 ^ (u - t) / B := by
  rw [Nat.div_div_eq_div_mul, du_split A h]
  exact Nat.mul_div_mul_right _ _ (du_p0 t)
/-- D is the number of digits of n -/
def du_D (n D : Nat) : Prop := 1 ≤ D ∧ n < 10 ^ D ∧ (D = 1 ∨ 10 ^ (D - 1) ≤ n)
theorem du_Dex {n N : Nat} (hN : 1 ≤ N) (h : n < 10 ^ N) : ∃ D, D ≤ N ∧ du_D n D := by
  obtain ⟨D, ⟨h1, h2⟩, h3⟩ := pk_least (fun D => 1 ≤ D ∧ n < 10 ^ D) ⟨N, hN, h⟩
  refine ⟨D, ?_, h1, h2, ?_⟩
  · rcases Nat.lt_or_ge N D with z | z
    · exact absurd ⟨hN, h⟩ (h3 N z)
    · exact z
  · by_cases e : D = 1
    · exact Or.inl e
    · exact Or.inr (Nat.le_of_not_lt (fun z => h3 (D - 1) (by omega) ⟨by omega, z⟩))
theorem du_Dle {n D N : Nat} (hD : du_D n D) (hN : 1 ≤ N) (h : n < 10 ^ N) : D ≤ N := by
  rcases Nat.lt_or_ge N D with z | z
  · rcases hD.2.2 with e | e
    · omega
    · have := du_p10 (show N ≤ D - 1 by omega)
      omega
  · exact z
theorem du_Dge {n D N : Nat} (hD : du_D n D) (h : 10 ^ N ≤ n) : N < D := by
  rcases Nat.lt_or_ge N D with z | z
  · exact z
  · have := du_p10 z
    have := hD.2.1
    omega
theorem du_Dlo {n D : Nat} (hD : du_D n D) (h : 0 < n) : 10 ^ (D - 1) ≤ n := by
  rcases hD.2.2 with e | e
  · subst e
    exact h
  · exact e
theorem du_Dmul {v D : Nat} (j : Nat) (hD : du_D v D) (hv : 0 < v) : du_D (v * 10 ^ j) (D + j) := by
  refine ⟨Nat.le_trans hD.1 (Nat.le_add_right _ _), ?_, Or.inr ?_⟩
  · rw [Nat.pow_add]
    exact Nat.mul_lt_mul_of_pos_right hD.2.1 (du_p0 j)
  · rw [show D + j - 1 = (D - 1) + j by have := hD.1; omega, Nat.pow_add]
    exact Nat.mul_le_mul_right _ (du_Dlo hD hv)
theorem du_kept {M D p : Nat} (hD : du_D M D) (hM : 0 < M) (hp : 1 ≤ p) (h : p ≤ D) : 10 ^ (p - 1) ≤ M / 10 ^ (D - p) ∧ M / 10 ^ (D - p) < 10 ^ p := by
  constructor
  · rw [Nat.le_div_iff_mul_le (du_p0 _), ← Nat.pow_add, show p - 1 + (D - p) = D - 1 by omega]
    exact du_Dlo hD hM
  · rw [Nat.div_lt_iff_lt_mul (du_p0 _), ← Nat.pow_add, show p + (D - p) = D by omega]
    exact hD.2.1
theorem du_mono (A B : Nat) {i j : Nat} (h : i ≤ j) : A * 10 ^ i / B ≤ A * 10 ^ j / B := Nat.div_le_div_right (Nat.mul_le_mul_left _ (du_p10 h))
/-- the least shift with p digits -/
theorem du_least_s {A B s p : Nat} (hp : 1 ≤ p) (h1 : 10 ^ (p - 1) ≤ A * 10 ^ s / B) (h2 : A * 10 ^ s / B < 10 ^ p) (i : Nat) : 10 ^ (p - 1) ≤ A * 10 ^ i / B ↔ s ≤ i := by
  constructor
  · intro h
    rcases Nat.lt_or_ge i s with z | z
    · exfalso
      have e := du_dd A B (u := s) (t := s - i) (by omega)
      rw [show s - (s - i) = i by omega] at e
      rw [← e] at h
      have k := Nat.div_mul_le_self (A * 10 ^ s / B) (10 ^ (s - i))
      have k2 : 10 ^ (p - 1) * 10 ^ (s - i) ≤ A * 10 ^ s / B := Nat.le_trans (Nat.mul_le_mul_right _ h) k
      rw [← Nat.pow_add] at k2
      have := du_p10 (show p ≤ p - 1 + (s - i) by omega)
      omega
    · exact z
  · intro h
    exact Nat.le_trans h1 (du_mono A B h)
/-! what is dropped against the middle -/
def du_H (x y : Nat) : Int32 := if x < y then -1 else if x = y then 0 else 1
def du_h (d u : Nat) (mo : Int32) : Int32 := if 2 * d < u then -1 else if 2 * d = u then (if mo = 0 then 0 else 1) else 1
theorem du_H3 (x y : Nat) : du_H x y = -1 ∨ du_H x y = 0 ∨ du_H x y = 1 := by
  unfold du_H
  split
  · exact Or.inl rfl
  · split
    · exact Or.inr (Or.inl rfl)
    · exact Or.inr (Or.inr rfl)
theorem du_h3 (d u : Nat) (mo : Int32) : du_h d u mo = -1 ∨ du_h d u mo = 0 ∨ du_h d u mo = 1 := by
  unfold du_h
  split
  · exact Or.inl rfl
  · split
    · split
      · exact Or.inr (Or.inl rfl)
      · exact Or.inr (Or.inr rfl)
    · exact Or.inr (Or.inr rfl)
theorem du_rest {q R U d r B Y X M : Nat} (e1 : B * q + R = Y) (e2 : X = Y * U) (e3 : B * M + r = X) (e4 : U * q + d = M) : R * U = B * d + r := by
  subst e1 e4
  rw [Nat.add_mul, Nat.mul_add] at *
  have e : B * q * U = B * (U * q) := by rw [Nat.mul_assoc, Nat.mul_comm q U]
  omega
theorem du_cmp {R U d r B w : Nat} (hU : U = 2 * w) (hd : d < U) (hr : r < B) (e : R * U = B * d + r) :
    (2 * d < U → 2 * R < B) ∧ (2 * d = U → r = 0 → 2 * R = B) ∧ (2 * d = U → 0 < r → B < 2 * R) ∧ (U < 2 * d → B < 2 * R) := by
  have hU0 : 0 < U := by omega
  have e2 : 2 * R * U = B * (2 * d) + 2 * r := by
    rw [Nat.mul_assoc, e, Nat.mul_add, Nat.mul_left_comm]
  refine ⟨fun h => ?_, fun h h0 => ?_, fun h h0 => ?_, fun h => ?_⟩
  · refine Nat.lt_of_mul_lt_mul_right (a := U) ?_
    have k : B * (2 * d + 2) ≤ B * U := Nat.mul_le_mul_left _ (by omega)
    rw [Nat.mul_add] at k
    omega
  · refine Nat.eq_of_mul_eq_mul_right hU0 ?_
    rw [e2, h, h0, Nat.mul_zero, Nat.add_zero]
  · refine Nat.lt_of_mul_lt_mul_right (a := U) ?_
    rw [e2, h]
    omega
  · refine Nat.lt_of_mul_lt_mul_right (a := U) ?_
    have k : B * (U + 1) ≤ B * (2 * d) := Nat.mul_le_mul_left _ (by omega)
    rw [Nat.mul_add] at k
    omega
theorem du_half {A B u t : Nat} {mo : Int32} (hB : 0 < B) (ht : 1 ≤ t) (htu : t ≤ u) (hmo : mo = 0 ↔ A * 10 ^ u % B = 0) :
    du_h (A * 10 ^ u / B % 10 ^ t) (10 ^ t) mo = du_H (2 * (A * 10 ^ (u - t) % B)) B := by
  have e := du_rest (Nat.div_add_mod (A * 10 ^ (u - t)) B) (du_split A htu) (Nat.div_add_mod (A * 10 ^ u) B) (q := A * 10 ^ (u - t) / B) (d := A * 10 ^ u / B % 10 ^ t) (by
    rw [← du_dd A B htu]
    exact Nat.div_add_mod _ _)
  have hU : 10 ^ t = 2 * (5 * 10 ^ (t - 1)) := by
    rw [← Nat.mul_assoc, show 2 * 5 = 10 by decide, Nat.mul_comm, ← Nat.pow_succ, show (t - 1).succ = t by omega]
  obtain ⟨c1, c2, c3, c4⟩ := du_cmp hU (Nat.mod_lt _ (du_p0 t)) (Nat.mod_lt _ hB) e
  unfold du_h du_H
  rcases Nat.lt_trichotomy (2 * (A * 10 ^ u / B % 10 ^ t)) (10 ^ t) with z | z | z
  · rw [if_pos z, if_pos (c1 z)]
  · rw [if_neg (show ¬ 2 * (A * 10 ^ u / B % 10 ^ t) < 10 ^ t by omega), if_pos z]
    by_cases h0 : A * 10 ^ u % B = 0
    · have := c2 z h0
      rw [if_pos (hmo.mpr h0), if_neg (by omega), if_pos this]
    · have := c3 z (by omega)
      rw [if_neg (fun q => h0 (hmo.mp q)), if_neg (by omega), if_neg (by omega)]
  · have := c4 z
    rw [if_neg (by omega), if_neg (by omega), if_neg (by omega), if_neg (by omega)]
/-! the least shift with no rest -/
theorem du_ten : ∀ b, b < 1000 → 10 ^ 17 % b = 0 → 10 ^ 9 % b = 0 := by decide +kernel
theorem du_dvd {A B u : Nat} (hB0 : 0 < B) (hB : B ≤ 999) (hu : u ≤ 17) (h : A * 10 ^ u % B = 0) : A * 10 ^ 9 % B = 0 := by
  have d1 : B ∣ A * 10 ^ u := Nat.dvd_of_mod_eq_zero h
  have d2 : B ∣ Nat.gcd (A * 10 ^ u) (B * 10 ^ u) := Nat.dvd_gcd d1 (Nat.dvd_mul_right _ _)
  rw [Nat.gcd_mul_right] at d2
  obtain ⟨b, hb⟩ := Nat.gcd_dvd_right A B
  have g0 : 0 < Nat.gcd A B := Nat.gcd_pos_of_pos_right _ hB0
  have d3 : Nat.gcd A B * b ∣ Nat.gcd A B * 10 ^ u := hb ▸ d2
  have d4 : b ∣ 10 ^ u := Nat.dvd_of_mul_dvd_mul_left g0 d3
  have d5 : b ∣ 10 ^ 17 := Nat.dvd_trans d4 (Nat.pow_dvd_pow 10 hu)
  have hb1 : b ≤ B := by
    rw [hb]
    exact Nat.le_mul_of_pos_left _ g0
  have d6 : b ∣ 10 ^ 9 := Nat.dvd_of_mod_eq_zero (du_ten b (by omega) (Nat.mod_eq_zero_of_dvd d5))
  have d7 : B ∣ Nat.gcd A B * 10 ^ 9 := by
    have := Nat.mul_dvd_mul_left (Nat.gcd A B) d6
    rwa [← hb] at this
  exact Nat.mod_eq_zero_of_dvd (Nat.dvd_trans d7 (Nat.mul_dvd_mul_right (Nat.gcd_dvd_left A B) _))
theorem du_up0 {A B i j : Nat} (hij : i ≤ j) (h : A * 10 ^ i % B = 0) : A * 10 ^ j % B = 0 := by
  have d1 : B ∣ A * 10 ^ i := Nat.dvd_of_mod_eq_zero h
  rw [du_split A (show j - i ≤ j by omega), show j - (j - i) = i by omega]
  exact Nat.mod_eq_zero_of_dvd (Nat.dvd_trans d1 (Nat.dvd_mul_right _ _))
theorem du_k {A B u : Nat} (hB0 : 0 < B) (hB : B ≤ 999) (hu : u ≤ 17) (h : A * 10 ^ u % B = 0) : ∃ k, k ≤ 9 ∧ ∀ i, A * 10 ^ i % B = 0 ↔ k ≤ i := by
  obtain ⟨k, h1, h2⟩ := pk_least (fun k => A * 10 ^ k % B = 0) ⟨9, du_dvd hB0 hB hu h⟩
  refine ⟨k, ?_, fun i => ⟨fun z => ?_, fun z => du_up0 z h1⟩⟩
  · rcases Nat.lt_or_ge 9 k with z | z
    · exact absurd (du_dvd hB0 hB hu h) (h2 9 z)
    · exact z
  · rcases Nat.lt_or_ge i k with y | y
    · exact absurd z (h2 i y)
    · exact y
theorem du_vB {A B k : Nat} (h : A * 10 ^ k % B = 0) : B * (A * 10 ^ k / B) = A * 10 ^ k := Nat.mul_div_cancel' (Nat.dvd_of_mod_eq_zero h)
theorem du_vM {A B k u : Nat} (hB0 : 0 < B) (hk : k ≤ u) (h : A * 10 ^ k % B = 0) : A * 10 ^ u / B = A * 10 ^ k / B * 10 ^ (u - k) := by
  rw [du_split A (show u - k ≤ u by omega), show u - (u - k) = k by omega, ← du_vB h, Nat.mul_assoc, Nat.mul_div_cancel_left _ hB0, Nat.mul_div_cancel_left _ hB0]
theorem du_v10 {A B k : Nat} (hk : 0 < k) (h : ∀ i, A * 10 ^ i % B = 0 ↔ k ≤ i) : ¬ A * 10 ^ k / B % 10 = 0 := by
  intro z
  have e := du_vB ((h k).mpr (Nat.le_refl k))
  have e2 := Nat.div_add_mod (A * 10 ^ k / B) 10
  rw [z, Nat.add_zero] at e2
  rw [← e2, show A * 10 ^ k = 10 * (A * 10 ^ (k - 1)) by rw [Nat.mul_left_comm, ← Nat.pow_succ', show (k - 1).succ = k by omega], Nat.mul_left_comm] at e
  have e3 := Nat.eq_of_mul_eq_mul_left (by decide) e
  have := (h (k - 1)).mp (by rw [← e3]; exact Nat.mul_mod_right _ _)
  omega
/-! bounds of the dividend and of the quotient -/
theorem du_sc_hi {A D : Nat} (hD : du_D A D) (h3 : D ≤ 3) : A * 10 ^ (18 - D) < 10 ^ 18 := by
  have := (Nat.mul_lt_mul_right (du_p0 (18 - D))).mpr hD.2.1
  rwa [← Nat.pow_add, show D + (18 - D) = 18 by omega] at this
theorem du_sc_lo {A D : Nat} (hD : du_D A D) (h3 : D ≤ 3) (hA : 0 < A) : 10 ^ 17 ≤ A * 10 ^ (18 - D) := by
  have := Nat.mul_le_mul_right (10 ^ (18 - D)) (du_Dlo hD hA)
  have h1 := hD.1
  rwa [← Nat.pow_add, show D - 1 + (18 - D) = 17 by omega] at this
theorem du_M_hi {A B D : Nat} (hD : du_D A D) (h3 : D ≤ 3) : A * 10 ^ (18 - D) / B < 10 ^ 18 := Nat.lt_of_le_of_lt (Nat.div_le_self _ _) (du_sc_hi hD h3)
theorem du_M_lo {A B D : Nat} (hD : du_D A D) (h3 : D ≤ 3) (hA : 0 < A) (hB0 : 0 < B) (hB : B ≤ 999) : 10 ^ 14 ≤ A * 10 ^ (18 - D) / B := by
  rw [Nat.le_div_iff_mul_le hB0]
  have := du_sc_lo hD h3 hA
  omega
theorem du_v_hi {A B k : Nat} (hA : A ≤ 999) : A * 10 ^ k / B < 10 ^ (3 + k) := by
  refine Nat.lt_of_le_of_lt (Nat.div_le_self _ _) ?_
  rw [Nat.pow_add]
  exact Nat.mul_lt_mul_of_pos_right (by omega) (du_p0 k)
/-! the rounding: 1 when it goes away from 0 -/
def du_U (m : Nat) (z h o : Int32) : Nat :=
  if m = 0 then (if 0 < h ∨ (h = 0 ∧ ¬ o = 0) then 1 else 0)
  else if m = 1 then (if h < 0 then 0 else 1)
  else if m = 2 then 0
  else if m = 3 then 1
  else if m = 4 then (if z = 0 then 0 else 1)
  else if m = 5 then (if z = 0 then 1 else 0)
  else (if 0 < h then 1 else 0)
theorem du_U1 (m : Nat) (z h o : Int32) : du_U m z h o = 0 ∨ du_U m z h o = 1 := by
  unfold du_U
  split
  · split
    · exact Or.inr rfl
    · exact Or.inl rfl
  · split
    · split
      · exact Or.inl rfl
      · exact Or.inr rfl
    · split
      · exact Or.inl rfl
      · split
        · exact Or.inr rfl
        · split
          · split
            · exact Or.inl rfl
            · exact Or.inr rfl
          · split
            · split
              · exact Or.inr rfl
              · exact Or.inl rfl
            · split
              · exact Or.inr rfl
              · exact Or.inl rfl
end
section
/-! ===== signs and small facts over Int32 and Int64 ===== -/
def du_S (c z : Int32) (A : Nat) : Prop := (z = 0 ∧ c = nI A) ∨ (z = 1 ∧ 0 < A ∧ c = -nI A)
def du_sg (z : Int32) (M : Nat) : Int64 := if z = 0 then lN M else -lN M
theorem du_ng : ∀ A, A < 1000 → (-nI A).toInt64 = -lN A ∧ (0 < A → (¬ (0 : Int32) ≤ -nI A) ∧ (¬ (0 : Int64) ≤ -lN A) ∧ ¬ (-nI A = 0)) := by decide +kernel
theorem du_Sz {c z : Int32} {A : Nat} (h : du_S c z A) : z = 0 ∨ z = 1 := by
  rcases h with ⟨h, _⟩ | ⟨h, _⟩
  · exact Or.inl h
  · exact Or.inr h
theorem du_S64 {c z : Int32} {A : Nat} (h : du_S c z A) (hA : A ≤ 999) : c.toInt64 = du_sg z A := by
  rcases h with ⟨rfl, rfl⟩ | ⟨rfl, _, rfl⟩
  · exact nI_l (by omega)
  · exact (du_ng A (by omega)).1
theorem du_Spos {c z : Int32} {A : Nat} (h : du_S c z A) (hA : A ≤ 999) : 0 ≤ c ↔ z = 0 := by
  rcases h with ⟨rfl, rfl⟩ | ⟨rfl, h0, rfl⟩
  · exact ⟨fun _ => rfl, fun _ => nI_pos' (by omega)⟩
  · exact ⟨fun k => absurd k ((du_ng A (by omega)).2 h0).1, fun k => absurd k (by decide)⟩
theorem du_Sne {c z : Int32} {A : Nat} (h : du_S c z A) (hA : A ≤ 999) (h0 : 0 < A) : ¬ c = 0 := by
  rcases h with ⟨rfl, rfl⟩ | ⟨rfl, h0, rfl⟩
  · exact nI_ne0 h0 (by omega)
  · exact ((du_ng A (by omega)).2 h0).2.2
theorem du_lpos {n : Nat} (h : n < 2 ^ 63) : (0 : Int64) ≤ lN n := (pk_lLE (a := 0) (by decide) h).mpr (Nat.zero_le n)
theorem du_l0 {n : Nat} (h : n < 2 ^ 63) : lN n = 0 ↔ n = 0 := pk_lEQ (b := 0) h (by decide)
theorem du_sgpos {z : Int32} {A : Nat} (hz : z = 0 ∨ z = 1) (hA : A ≤ 999) (h0 : z = 1 → 0 < A) : (0 : Int64) ≤ du_sg z A ↔ z = 0 := by
  rcases hz with rfl | rfl
  · exact ⟨fun _ => rfl, fun _ => du_lpos (by omega)⟩
  · exact ⟨fun k => absurd k ((du_ng A (by omega)).2 (h0 rfl)).2.1, fun k => absurd k (by decide)⟩
theorem du_Sp {c z : Int32} {A : Nat} (h : du_S c z A) : z = 1 → 0 < A := by
  intro e
  rcases h with ⟨h, _⟩ | ⟨_, h, _⟩
  · rw [h] at e
    exact absurd e (by decide)
  · exact h
theorem du_rem (a : Int32) : ∃ z A, A ≤ 999 ∧ du_S (a - a / 1000 * 1000) z A := by
  have e := rem_toInt a 1000
  have b := tmod_bounds (a := a.toInt) (M := 1000) (by decide)
  rw [show (1000 : Int32).toInt = 1000 by decide] at e
  rw [← e] at b
  generalize a - a / 1000 * 1000 = q at b ⊢
  by_cases h : q < 0
  · have h' := Int32.lt_iff_toInt_lt.mp h
    rw [show (0 : Int32).toInt = 0 by decide] at h'
    refine ⟨1, (-q.toInt).toNat, by omega, Or.inr ⟨rfl, by omega, ?_⟩⟩
    apply Int32.toInt_inj.mp
    rw [sb_negT (by omega)]
    omega
  · obtain ⟨j, hj, rfl⟩ := nI_of h
    rw [nI_toInt hj] at b
    exact ⟨0, j, by omega, Or.inl ⟨rfl, rfl⟩⟩
/-- after BITS.to-paste's wb_ rows -/
theorem du_odd {n : Nat} (hn : n < 2 ^ 63) : lN n &&& 1 = lN (n % 2) := by
  have h64 : n < 2 ^ 64 := by omega
  apply Int64.toBitVec_inj.mp
  rw [Int64.toBitVec_and]
  show BitVec.ofNat 64 n &&& BitVec.ofNat 64 1 = BitVec.ofNat 64 (n % 2)
  apply BitVec.eq_of_toNat_eq
  rw [BitVec.toNat_and, BitVec.toNat_ofNat, BitVec.toNat_ofNat, BitVec.toNat_ofNat, Nat.mod_eq_of_lt h64, Nat.mod_eq_of_lt (show 1 < 2 ^ 64 by decide), Nat.mod_eq_of_lt (show n % 2 < 2 ^ 64 by omega)]
  exact Nat.and_two_pow_sub_one_eq_mod n 1
theorem du_pred {i : Nat} (h : 1 ≤ i) : nI i - 1 = nI (i - 1) := by
  obtain ⟨j, rfl⟩ : ∃ j, i = j + 1 := ⟨i - 1, by omega⟩
  exact nI_pred j
theorem du_g0 : ∀ t, t < 11 → (¬ nI t - 5 < -20) ∧ nI t - 5 ≤ 20 ∧ (nI t - 5).toInt8.toInt32 = nI t - 5 := by decide +kernel
theorem du_g1 : ∀ t, t < 11 → ∀ i, i < 19 → nI t - 5 - nI i ≤ nI t - 5 ∧ (0 < i → nI t - 5 - nI i < nI t - 5) := by decide +kernel
theorem du_g2 : ∀ t, t < 11 → ∀ i, i < 13 → (¬ nI t - 5 - nI i < -20) ∧ nI t - 5 - nI i ≤ 20 ∧ (nI t - 5 - nI i).toInt8.toInt32 = nI t - 5 - nI i ∧ (¬ nI t - 5 - nI i + 1 < -20) ∧ nI t - 5 - nI i + 1 ≤ 20 ∧ (nI t - 5 - nI i + 1).toInt8.toInt32 = nI t - 5 - nI i + 1 := by decide +kernel
theorem du_subAdd (g : Int32) {u t : Nat} (h : t ≤ u) : g - nI u + nI t = g - nI (u - t) := by
  have e : nI u = nI (u - t) + nI t := by rw [nI_add, Nat.sub_add_cancel h]
  rw [e]
  grind
theorem du_sub0 (g : Int32) : g - nI 0 = g := by
  rw [nI_0]
  exact Int32.sub_zero g
/-! ===== the methods, one by one ===== -/
def du_T (a : Nat → Int64) : Prop := ∀ j, j < 19 → a j = lN (10 ^ j)
section
variable {p m r ng sc mo : Int32} {mg : Int64} {a1 a2 : Nat → Int32} {a3 : Nat → Int64}
theorem du_isReg {post : Int32 → Prop} {x : Int32} (d : Nat) (hd : d < 6) (h : post 1) (hx : x = nI d := by rfl) : wpX_isRegister post (p, m, r, ng, mg, sc, mo, a1, a2, a3) x := by
  subst hx
  unfold wpX_isRegister
  dsimp only
  exact pk_lt d 0 (fun z => absurd z (by omega)) (fun _ => pk_lt 5 d (fun z => absurd z (by omega)) (fun _ => h))
theorem du_init {post : St2 → Prop} {mc ms P : Nat} (hmc : 3 ≤ mc) (hms : 31 ≤ ms) (hP : 3 ≤ P) (hP7 : P ≤ 7) (h : ∀ a3, du_T a3 → post (nI P, m, r, ng, mg, sc, mo, (fun _ => 0), (fun _ => 0), a3)) :
    wpX_init post mc ms (p, m, r, ng, mg, sc, mo) (nI P) := by
  unfold wpX_init
  dsimp only
  refine ⟨by omega, by omega, by omega, by omega, hmc, hms, pk_le 3 P (fun _ => pk_le P 7 (fun _ => ?_) (fun z => absurd z (by omega))) (fun z => absurd z (by omega))⟩
  unfold wX_init_50
  refine nm_e ?_
  refine pk_loop (fun n i s => wX_init_62 post mc ms 3 31 (nI P) m r ng mg sc mo n (nI i) (fun _ => 0) (fun _ => 0) s) (fun i s => 1 ≤ i ∧ ∀ j, j < i → s j = lN (10 ^ j)) 19 1 _ (by omega) ⟨Nat.le_refl 1, fun j hj => ?_⟩ (fun n s hI => ?_) (fun n i s hi hI hw => ?_)
  · have : j = 0 := by omega
    subst this
    exact pk_uLs
  · exact br_t (by decide) (h s hI.2)
  · refine pk_le 19 i (fun z => absurd z (by omega)) (fun _ => ⟨pk_in (i - 1) 19 (by omega) (du_pred hI.1), pk_in i 19 hi, nm_e (nm_r (nI_1 i) (hw _ ⟨by omega, fun j hj => ?_⟩))⟩)
    rw [du_pred hI.1, nI_clamp (by omega), nI_clamp (by omega)]
    by_cases e : j = i
    · subst e
      rw [pk_uLs, hI.2 (j - 1) (by have := hI.1; omega)]
      refine (lN_mul 10 (10 ^ (j - 1))).trans (congrArg lN ?_)
      rw [← Nat.pow_succ', show (j - 1).succ = j by have := hI.1; omega]
    · rw [pk_uLn e]
      exact hI.2 j (by omega)
theorem du_mode {post : Int32 → St2 → Prop} {M : Nat} (hM : M < 7) (h : post 1 (p, nI M, r, ng, mg, sc, mo, a1, a2, a3)) : wpX_mode post (p, m, r, ng, mg, sc, mo, a1, a2, a3) (nI M) := by
  unfold wpX_mode
  dsimp only
  exact pk_lt M 0 (fun z => absurd z (by omega)) (fun _ => pk_le M 6 (fun _ => h) (fun z => absurd z (by omega)))
theorem du_set {post : Int32 → St2 → Prop} {P A : Nat} {c z e x : Int32} (d : Nat) (hT : du_T a3) (hP : 3 ≤ P) (hP7 : P ≤ 7) (hA : A ≤ 999) (hS : du_S c z A) (he1 : ¬ e < -20) (he2 : e ≤ 20) (hd : d < 6)
    (h : post 1 (nI P, m, r, ng, mg, sc, mo, upd a1 d c, upd a2 d e.toInt8.toInt32, a3)) (hx : x = nI d := by rfl) : wpX_set post (nI P, m, r, ng, mg, sc, mo, a1, a2, a3) x c e := by
  unfold wpX_set
  dsimp only
  refine du_isReg d hd (br_f (by decide) (br_f he1 (br_t he2 ?_))) hx
  have key : wX_set_34 post x c e (lN A) (nI P) m r ng mg sc mo a1 a2 a3 := by
    subst hx
    unfold wX_set_34
    refine ⟨pk_in P 19 (by omega), br_t ?_ ⟨pk_in d 6 hd, fun b1 e1 => ⟨pk_in d 6 hd, fun b2 e2 => ?_⟩⟩⟩
    · rw [nI_clamp (by omega), hT P (by omega), pk_lLT (by omega) (du_p63 (by omega))]
      have := du_p10 hP
      omega
    · rw [nI_clamp (by omega)] at e1 e2
      subst e1 e2
      exact h
  have h64 := du_S64 hS hA
  rcases hS with ⟨rfl, rfl⟩ | ⟨rfl, h0, rfl⟩
  · refine br_t (nI_pos' (by omega)) ?_
    rw [h64]
    exact key
  · refine br_f ((du_ng A (by omega)).2 h0).1 ?_
    rw [h64, show -du_sg 1 A = lN A from Int64.neg_neg]
    exact key
theorem du_digitsOf {post : Int32 → Prop} {N D : Nat} (hT : du_T a3) (hN : N < 10 ^ 18) (hD : du_D N D) (h : post (nI D)) : wpX_digitsOf post (p, m, r, ng, mg, sc, mo, a1, a2, a3) (lN N) := by
  have hD18 : D ≤ 18 := du_Dle hD (by omega) hN
  unfold wpX_digitsOf
  dsimp only
  refine pk_loop (σ := Unit) (fun n i _ => wX_digitsOf_2 post (lN N) p m r ng mg sc mo a1 a2 a3 n (nI i)) (fun i _ => 1 ≤ i) D 1 () hD.1 (Nat.le_refl 1) (fun n _ _ => ?_) (fun n i _ hi h1 hw => ?_)
  · refine pk_le 19 D (fun z => absurd z (by omega)) (fun _ => ⟨pk_in D 19 (by omega), br_t ?_ h⟩)
    rw [nI_clamp (by omega), hT D (by omega), pk_lLT (du_l63 hN) (du_p63 hD18)]
    exact hD.2.1
  · refine pk_le 19 i (fun z => absurd z (by omega)) (fun _ => ⟨pk_in i 19 (by omega), br_f ?_ (nm_r (nI_1 i) (hw () (by omega)))⟩)
    rw [nI_clamp (by omega), hT i (by omega), pk_lLT (du_l63 hN) (du_p63 (by omega))]
    rcases hD.2.2 with e | e
    · omega
    · have := du_p10 (show i ≤ D - 1 by omega)
      omega
theorem du_take {post : St2 → Prop} {n : Nat} {x : Int32} (hn : n < 2 ^ 63) (h : post (p, m, r, 0, lN n, x, 0, a1, a2, a3)) : wpX_take post (p, m, r, ng, mg, sc, mo, a1, a2, a3) (lN n) x := by
  unfold wpX_take
  dsimp only
  exact br_t (du_lpos hn) ⟨rfl, rfl, br_t rfl h⟩
theorem du_takeS {post : St2 → Prop} {A : Nat} {z x : Int32} (hz : z = 0 ∨ z = 1) (hA : A ≤ 999) (h0 : z = 1 → 0 < A) (h : post (p, m, r, z, lN A, x, 0, a1, a2, a3)) : wpX_take post (p, m, r, ng, mg, sc, mo, a1, a2, a3) (du_sg z A) x := by
  have hp := du_sgpos hz hA h0
  rcases hz with rfl | rfl
  · exact du_take (by omega) h
  · unfold wpX_take
    dsimp only
    refine br_f (fun k => absurd (hp.mp k) (by decide)) ⟨rfl, rfl, br_f (by decide) ?_⟩
    rw [show -du_sg 1 A = lN A from Int64.neg_neg]
    exact h
theorem du_raise {post : Int32 → St2 → Prop} {x : Int32} (h : post x (p, m, r ||| x, ng, mg, sc, mo, a1, a2, a3)) : wpX_raise post (p, m, r, ng, mg, sc, mo, a1, a2, a3) x := by
  unfold wpX_raise
  dsimp only
  exact nm_e h
theorem du_store {post : St2 → Prop} {M : Nat} {z x : Int32} (d : Nat) (hd : d < 6) (hz : z = 0 ∨ z = 1) (h : post (p, m, r, z, lN M, sc, mo, upd a1 d (du_sg z M).toInt32, upd a2 d sc.toInt8.toInt32, a3)) (hx : x = nI d := by rfl) :
    wpX_store post (p, m, r, z, lN M, sc, mo, a1, a2, a3) x := by
  subst hx
  unfold wpX_store
  dsimp only
  have key : ∀ y, y = du_sg z M → wX_store_24 post (nI d) y (nI d) p m r z (lN M) sc mo a1 a2 a3 := by
    intro y ey
    subst ey
    unfold wX_store_24
    refine ⟨pk_in d 6 hd, fun b1 e1 => ⟨pk_in d 6 hd, fun b2 e2 => ?_⟩⟩
    rw [nI_clamp (by omega)] at e1 e2
    subst e1 e2
    exact h
  rcases hz with rfl | rfl
  · exact br_t rfl (key _ rfl)
  · exact br_f (by decide) (key _ rfl)
theorem du_halfOf {post : Int32 → Prop} {d U : Nat} (hU : U < 2 ^ 63) (hd : d < U) (h : post (du_h d U mo)) : wpX_halfOf post (p, m, r, ng, mg, sc, mo, a1, a2, a3) (lN d) (lN U) := by
  unfold wpX_halfOf
  dsimp only
  refine br_f (by rw [du_l0 hU]; omega) (nm_r (lN_sub (Nat.le_of_lt hd)) ?_)
  unfold du_h at h
  by_cases e : 2 * d = U
  · rw [if_neg (by omega), if_pos e] at h
    refine br_t (by rw [pk_lEQ (by omega) (by omega)]; omega) ?_
    by_cases e2 : mo = 0
    · rw [if_pos e2] at h
      exact br_t e2 h
    · rw [if_neg e2] at h
      exact br_f e2 h
  · refine br_f (by rw [pk_lEQ (by omega) (by omega)]; omega) ?_
    by_cases e2 : 2 * d < U
    · rw [if_pos e2] at h
      exact br_t (by rw [pk_lLE (by omega) (by omega)]; omega) h
    · rw [if_neg e2, if_neg e] at h
      exact br_f (by rw [pk_lLE (by omega) (by omega)]; omega) h
theorem du_goesUp {post : Int32 → Prop} {M kept : Nat} {z h : Int32} (hk : kept < 2 ^ 63) (hM : M < 7) (hz : z = 0 ∨ z = 1) (hh : h = -1 ∨ h = 0 ∨ h = 1) (H : post (nI (du_U M z h (nI (kept % 2))))) :
    wpX_goesUp post (p, nI M, r, z, mg, sc, mo, a1, a2, a3) (lN kept) h := by
  unfold wpX_goesUp
  dsimp only
  rw [du_odd hk]
  have ho : kept % 2 = 0 ∨ kept % 2 = 1 := by omega
  generalize kept % 2 = o at H ho ⊢
  have hM' : M = 0 ∨ M = 1 ∨ M = 2 ∨ M = 3 ∨ M = 4 ∨ M = 5 ∨ M = 6 := by omega
  rcases hM' with rfl | rfl | rfl | rfl | rfl | rfl | rfl <;> rcases hz with rfl | rfl <;> rcases hh with rfl | rfl | rfl <;> rcases ho with rfl | rfl
  all_goals (repeat (first | refine br_t (by decide) ?_ | refine br_f (by decide) ?_ | refine ⟨rfl, ?_⟩))
  all_goals exact Eq.mp (congrArg post (by decide)) H
end
/-- the law's own rounding -/
theorem du_up {post : Int32 → Prop} {M : Nat} {z h o : Int32} (hM : M < 7) (hz : z = 0 ∨ z = 1) (hh : h = -1 ∨ h = 0 ∨ h = 1) (ho : o = 0 ∨ o = 1) (H : post (nI (du_U M z h o))) : wpL_up post () (nI M) z h o := by
  unfold wpL_up
  have hM' : M = 0 ∨ M = 1 ∨ M = 2 ∨ M = 3 ∨ M = 4 ∨ M = 5 ∨ M = 6 := by omega
  rcases hM' with rfl | rfl | rfl | rfl | rfl | rfl | rfl <;> rcases hz with rfl | rfl <;> rcases hh with rfl | rfl | rfl <;> rcases ho with rfl | rfl
  all_goals (repeat (first | refine br_t (by decide) ?_ | refine br_f (by decide) ?_ | refine ⟨rfl, ?_⟩))
  all_goals exact Eq.mp (congrArg post (by decide)) H
theorem du_power {post : Int64 → Prop} {x : Int32} (k : Nat) (hk : k ≤ 18) (h : post (lN (10 ^ k))) (hx : x = nI k := by rfl) : wpL_power post () x := by
  subst hx
  unfold wpL_power
  refine pk_loop (σ := Unit) (fun n i _ => wL_power_4 post (nI k) n (lN (10 ^ i)) (nI i)) (fun _ _ => True) k 0 () (Nat.zero_le k) trivial (fun n _ _ => ?_) (fun n i _ hi _ hw => ?_)
  · exact pk_le k k (fun _ => h) (fun z => absurd z (by omega))
  · exact pk_le k i (fun z => absurd z (by omega)) (fun _ => nm_r ((lN_mul (10 ^ i) 10).trans (congrArg lN (Nat.pow_succ 10 i).symm)) (nm_r (nI_1 i) (hw () trivial)))
end
section
/-! ===== divide, dropDigits, approach, finish ===== -/
section
variable {p m r ng sc mo : Int32} {mg : Int64} {a1 a2 : Nat → Int32} {a3 : Nat → Int64}
theorem du_div81 {post : St2 → Prop} {A B : Nat} {zc zd q : Int32} (hA : A ≤ 999) (hB : B ≤ 999) (hc : zc = 0 ∨ zc = 1) (hc0 : zc = 1 → 0 < A) (hd : zd = 0 ∨ zd = 1) (hd0 : zd = 1 → 0 < B) (hq : q = 0 ∨ q = 1)
    (h : post (p, m, r, (if zc = zd ∨ A = 0 then 0 else 1), mg, sc, q, a1, a2, a3)) : wX_divide_81 post (du_sg zc A) (du_sg zd B) (lN A) q p m r ng mg sc mo a1 a2 a3 := by
  have pc := du_sgpos hc hA hc0
  have pd := du_sgpos hd hB hd0
  unfold wX_divide_81
  refine ⟨by rcases hq with rfl | rfl <;> rfl, by rcases hq with rfl | rfl <;> rfl, ?_⟩
  have key : wX_divide_107 post (lN A) zd zc p m r ng mg sc q a1 a2 a3 := by
    unfold wX_divide_107
    by_cases e : zc = zd
    · rw [if_pos (Or.inl e)] at h
      exact br_t e h
    · refine br_f e ?_
      by_cases e2 : A = 0
      · rw [if_pos (Or.inr e2)] at h
        exact br_t ((du_l0 (by omega)).mpr e2) h
      · rw [if_neg (fun k => k.elim e e2)] at h
        exact br_f (fun k => e2 ((du_l0 (by omega)).mp k)) h
  have key2 : wX_divide_96 post (du_sg zd B) (lN A) zc p m r ng mg sc q a1 a2 a3 := by
    unfold wX_divide_96
    rcases hd with rfl | rfl
    · exact br_t (pd.mpr rfl) key
    · exact br_f (fun k => absurd (pd.mp k) (by decide)) key
  rcases hc with rfl | rfl
  · exact br_t (pc.mpr rfl) key2
  · exact br_f (fun k => absurd (pc.mp k) (by decide)) key2
theorem du_divide {post : St2 → Prop} {A B D : Nat} {zc zd w : Int32} (hT : du_T a3) (hA : A ≤ 999) (hB0 : 0 < B) (hB : B ≤ 999) (hc : zc = 0 ∨ zc = 1) (hc0 : zc = 1 → 0 < A) (hd : zd = 0 ∨ zd = 1) (hD : du_D A D) (hD3 : D ≤ 3)
    (h : post (p, m, r, (if zc = zd ∨ A = 0 then 0 else 1), lN (A * 10 ^ (18 - D) / B), w - nI (18 - D), (if A * 10 ^ (18 - D) % B = 0 then 0 else 1), a1, a2, a3)) :
    wpX_divide post (p, m, r, ng, mg, sc, mo, a1, a2, a3) (du_sg zc A) (du_sg zd B) w := by
  have pc := du_sgpos hc hA hc0
  have pd := du_sgpos hd hB (fun _ => hB0)
  have hX : A * 10 ^ (18 - D) < 2 ^ 63 := du_l63 (du_sc_hi hD hD3)
  have hBl : ¬ lN B = 0 := fun k => absurd ((du_l0 (by omega)).mp k) (by omega)
  have k26 : wX_divide_26 post (du_sg zc A) (du_sg zd B) w (lN A) (lN B) p m r ng mg sc mo a1 a2 a3 := by
    unfold wX_divide_26
    refine du_digitsOf hT (by omega) hD (nm_r (pk_sub (a := 18) (b := D) (by omega)) ⟨pk_in (18 - D) 19 (by omega), nm_r (e' := lN (A * 10 ^ (18 - D))) ?_ ⟨hBl, ?_⟩⟩)
    · rw [nI_clamp (by omega), hT (18 - D) (by omega), lN_mul]
    · rw [pk_lRem hX hB0 (by omega), pk_lDiv hX hB0 (by omega)]
      refine du_take (Nat.lt_of_le_of_lt (Nat.div_le_self _ _) hX) ?_
      dsimp only
      refine ⟨hBl, ?_⟩
      by_cases e : A * 10 ^ (18 - D) % B = 0
      · rw [if_pos e] at h
        exact br_t (by rw [e]; rfl) (du_div81 hA hB hc hc0 hd (fun _ => hB0) (Or.inl rfl) h)
      · rw [if_neg e] at h
        exact br_f (fun k => e ((du_l0 (Nat.lt_trans (Nat.mod_lt _ hB0) (by omega))).mp k)) (du_div81 hA hB hc hc0 hd (fun _ => hB0) (Or.inr rfl) h)
  have k12 : wX_divide_12 post (du_sg zc A) (du_sg zd B) w (lN A) p m r ng mg sc mo a1 a2 a3 := by
    unfold wX_divide_12
    rcases hd with rfl | rfl
    · exact br_t (pd.mpr rfl) k26
    · refine br_f (fun k => absurd (pd.mp k) (by decide)) ?_
      rw [show -du_sg 1 B = lN B from Int64.neg_neg]
      exact k26
  unfold wpX_divide
  dsimp only
  rcases hc with rfl | rfl
  · exact br_t (pc.mpr rfl) k12
  · refine br_f (fun k => absurd (pc.mp k) (by decide)) ?_
    rw [show -du_sg 1 A = lN A from Int64.neg_neg]
    exact k12
/-! dropDigits: nothing dropped, something dropped -/
theorem du_drop64 {post : Int32 → St2 → Prop} {M t : Nat} {f : Int32} (hT : du_T a3) (hM : M < 10 ^ 18) (ht : t ≤ 18) (h : wX_dropDigits_64 post (lN (10 ^ t)) (lN (M / 10 ^ t)) (lN (M % 10 ^ t)) p m r ng (lN M) (sc + nI t) mo a1 a2 a3) (hf : f = nI t := by rfl) :
    wpX_dropDigits post (p, m, r, ng, lN M, sc, mo, a1, a2, a3) f := by
  subst hf
  have hl : ¬ lN (10 ^ t) = 0 := fun k => absurd ((du_l0 (du_p63 ht)).mp k) (by have := du_p0 t; omega)
  unfold wpX_dropDigits
  dsimp only
  refine nm_e (pk_le t 18 (fun _ => ⟨pk_in t 19 (by omega), ?_⟩) (fun z => absurd z (by omega)))
  rw [nI_clamp (by omega), hT t (by omega)]
  unfold wX_dropDigits_26
  refine br_f hl ⟨hl, ?_⟩
  unfold wX_dropDigits_43
  refine br_f hl ⟨hl, ?_⟩
  rw [pk_lRem (du_l63 hM) (du_p0 t) (du_p63 ht), pk_lDiv (du_l63 hM) (du_p0 t) (du_p63 ht)]
  exact h
theorem du_drop0 {post : Int32 → St2 → Prop} {M t : Nat} {f : Int32} (hT : du_T a3) (hM : M < 10 ^ 18) (ht : t ≤ 18) (h0 : M % 10 ^ t = 0) (h : post 2 (p, m, r, ng, lN (M / 10 ^ t), sc + nI t, 0, a1, a2, a3)) (hf : f = nI t := by rfl) :
    wpX_dropDigits post (p, m, r, ng, lN M, sc, 0, a1, a2, a3) f := by
  refine du_drop64 hT hM ht ?_ hf
  unfold wX_dropDigits_64
  refine br_t (by rw [h0]; rfl) (br_t rfl ?_)
  unfold wX_dropDigits_85
  refine br_f (by decide) ?_
  unfold wX_dropDigits_118
  exact br_f (by decide) h
theorem du_drop1 {post : Int32 → St2 → Prop} {M Q t : Nat} {f z : Int32} (hT : du_T a3) (hM : M < 10 ^ 18) (ht : t ≤ 18) (h0 : ¬ (M % 10 ^ t = 0 ∧ mo = 0)) (hQ : Q < 7) (hz : z = 0 ∨ z = 1)
    (h : post 3 (p, nI Q, r, z, lN (M / 10 ^ t + du_U Q z (du_h (M % 10 ^ t) (10 ^ t) mo) (nI (M / 10 ^ t % 2))), sc + nI t, 0, a1, a2, a3)) (hf : f = nI t := by rfl) :
    wpX_dropDigits post (p, nI Q, r, z, lN M, sc, mo, a1, a2, a3) f := by
  have hk : M / 10 ^ t < 2 ^ 63 := Nat.lt_of_le_of_lt (Nat.div_le_self _ _) (du_l63 hM)
  have hr : M % 10 ^ t < 2 ^ 63 := Nat.lt_of_le_of_lt (Nat.mod_le _ _) (du_l63 hM)
  refine du_drop64 hT hM ht ?_ hf
  have key : wX_dropDigits_84 post (lN (10 ^ t)) (lN (M / 10 ^ t)) (lN (M % 10 ^ t)) p (nI Q) r z (lN M) (sc + nI t) mo a1 a2 a3 := by
    unfold wX_dropDigits_84 wX_dropDigits_85
    refine br_t rfl ?_
    refine du_halfOf (du_p63 ht) (Nat.mod_lt _ (du_p0 t)) ?_
    refine du_goesUp hk hQ hz (du_h3 _ _ _) ?_
    have hu := du_U1 Q z (du_h (M % 10 ^ t) (10 ^ t) mo) (nI (M / 10 ^ t % 2))
    generalize du_U Q z (du_h (M % 10 ^ t) (10 ^ t) mo) (nI (M / 10 ^ t % 2)) = u at h hu ⊢
    rcases hu with rfl | rfl
    · refine br_t rfl ?_
      unfold wX_dropDigits_118
      exact br_t rfl h
    · refine br_f (by decide) (nm_r (lN_1 _) ?_)
      unfold wX_dropDigits_118
      exact br_t rfl h
  unfold wX_dropDigits_64
  by_cases e : M % 10 ^ t = 0
  · exact br_t (by rw [e]; rfl) (br_f (fun k => h0 ⟨e, k⟩) key)
  · exact br_f (fun k => e ((du_l0 hr).mp k)) key
/-! approach: the zeros go, down to the shift k -/
theorem du_approach {post : St2 → Prop} {v k j P Dv t : Nat} (hT : du_T a3) (hv : 0 < v) (hvj : v * 10 ^ j < 10 ^ 18) (hD : du_D v Dv) (ht : t < 11) (hkj : k + j ≤ 18) (hP : P ≤ 7) (h0 : k = 0 → Dv ≤ P) (h1 : 0 < k → ¬ v % 10 = 0)
    (h : post (nI P, m, r, ng, lN v, nI t - 5 - nI k, mo, a1, a2, a3)) : wpX_approach post (nI P, m, r, ng, lN (v * 10 ^ j), nI t - 5 - nI (k + j), mo, a1, a2, a3) (nI t - 5) := by
  have hv18 : v < 10 ^ 18 := Nat.lt_of_le_of_lt (Nat.le_mul_of_pos_right v (du_p0 j)) hvj
  have hDv := du_Dle hD (by omega) hv18
  have e66 : ∃ fu, wX_approach_66 post (nI t - 5) (nI P) m r ng mo a1 a2 a3 fu (nI Dv) (lN v) (nI t - 5 - nI k) := ⟨1, br_t (du_g1 t ht k (by omega)).1 h⟩
  unfold wpX_approach
  dsimp only
  refine du_digitsOf hT hvj (du_Dmul j hD hv) ⟨j + 1, ?_⟩
  refine pk_loopD (σ := Unit) (fun n j _ => wX_approach_9 post (nI t - 5) (nI P) m r ng mo a1 a2 a3 n (nI (Dv + j)) (lN (v * 10 ^ j)) (nI t - 5 - nI (k + j))) (fun j _ => v * 10 ^ j < 10 ^ 18 ∧ k + j ≤ 18) (fun n _ _ => ?_) (fun n i _ hI hw => ?_) j () ⟨hvj, hkj⟩
  · show wX_approach_9 post (nI t - 5) (nI P) m r ng mo a1 a2 a3 (n + 1) (nI Dv) (lN (v * 10 ^ 0)) (nI t - 5 - nI k)
    rw [Nat.pow_zero, Nat.mul_one]
    have e10 : lN v - lN v / 10 * 10 = lN (v % 10) := pk_lRem (b := 10) (du_l63 hv18) (by decide) (by decide)
    by_cases hv10 : v % 10 = 0
    · have hk0 : k = 0 := by
        rcases Nat.eq_zero_or_pos k with q | q
        · exact q
        · exact absurd hv10 (h1 q)
      refine And.intro (by decide) (br_t (by rw [e10, hv10]; rfl) (br_f ?_ (pk_le Dv P (fun _ => e66) (fun z => absurd (h0 hk0) (by omega)))))
      rw [hk0, du_sub0]
      exact Int32.lt_irrefl
    · exact And.intro (by decide) (br_f (by rw [e10, du_l0 (by omega)]; exact hv10) e66)
  · obtain ⟨hI1, hI2⟩ := hI
    have em : v * 10 ^ (i + 1) = 10 * (v * 10 ^ i) := by rw [Nat.pow_succ, Nat.mul_comm 10, Nat.mul_assoc]
    have hw' : wX_approach_9 post (nI t - 5) (nI P) m r ng mo a1 a2 a3 n (nI (Dv + i)) (lN (v * 10 ^ i)) (nI t - 5 - nI (k + i)) := hw () ⟨by omega, by omega⟩
    show wX_approach_9 post (nI t - 5) (nI P) m r ng mo a1 a2 a3 (n + 1) (nI (Dv + i + 1)) (lN (v * 10 ^ (i + 1))) (nI t - 5 - nI (k + i + 1))
    rw [em] at hI1 ⊢
    have e10 : lN (10 * (v * 10 ^ i)) - lN (10 * (v * 10 ^ i)) / 10 * 10 = lN (10 * (v * 10 ^ i) % 10) := pk_lRem (b := 10) (du_l63 hI1) (by decide) (by decide)
    refine And.intro (by decide) (br_t (by rw [e10, Nat.mul_mod_right]; rfl) (br_t ((du_g1 t ht (k + i + 1) (by omega)).2 (by omega)) ?_))
    refine And.intro (by decide) (nm_r ((pk_lDiv (b := 10) (du_l63 hI1) (by decide) (by decide)).trans (congrArg lN (Nat.mul_div_cancel_left _ (by decide)))) (nm_r (du_subAdd (nI t - 5) (u := k + i + 1) (t := 1) (by omega)) (nm_r (pk_m1 (Dv + i)) hw')))
/-! finish -/
theorem du_f155 {post : Int32 → St2 → Prop} {M : Nat} {z x f : Int32} (d : Nat) (hd : d < 6) (hz : z = 0 ∨ z = 1) (h1 : ¬ sc < -20) (h2 : sc ≤ 20) (h : post f (p, m, r ||| f, z, lN M, sc, mo, upd a1 d (du_sg z M).toInt32, upd a2 d sc.toInt8.toInt32, a3)) (hx : x = nI d := by rfl) :
    wX_finish_155 post x f p m r z (lN M) sc mo a1 a2 a3 := by
  unfold wX_finish_155
  refine br_f h1 (br_t h2 ?_)
  refine du_store d hd hz ?_ hx
  dsimp only
  exact du_raise h
theorem du_f143 {post : Int32 → St2 → Prop} {M : Nat} {z x f w : Int32} (d : Nat) (hd : d < 6) (hz : z = 0 ∨ z = 1) (h1 : ¬ sc < -20) (h2 : sc ≤ 20) (hf : sc ≤ w ∨ f ||| 2 = f) (h : post f (p, m, r ||| f, z, lN M, sc, mo, upd a1 d (du_sg z M).toInt32, upd a2 d sc.toInt8.toInt32, a3)) (hx : x = nI d := by rfl) :
    wX_finish_143 post x w f p m r z (lN M) sc mo a1 a2 a3 := by
  have k := du_f155 d hd hz h1 h2 h hx
  unfold wX_finish_143
  exact br_c (fun _ => k) (fun q => nm_r (hf.resolve_left q) k)
theorem du_f73a {post : Int32 → St2 → Prop} {M D P : Nat} {x w f : Int32} (hT : du_T a3) (hM : M < 10 ^ 18) (hD : du_D M D) (hDP : D ≤ P) (hP : P ≤ 7) (h : wX_finish_143 post x w f (nI P) m r ng (lN M) sc mo a1 a2 a3) :
    wX_finish_73 post x w f (nI P) m r ng (lN M) sc mo a1 a2 a3 := by
  unfold wX_finish_73
  exact du_digitsOf hT hM hD (pk_le D P (fun _ => h) (fun z => absurd z (by omega)))
theorem du_f73b {post : Int32 → St2 → Prop} {M D P Q W : Nat} {x w f z : Int32} (hT : du_T a3) (hM : M < 10 ^ 18) (hD : du_D M D) (hP1 : 3 ≤ P) (hDP : P < D) (hQ : Q < 7) (hz : z = 0 ∨ z = 1) (h0 : ¬ (M % 10 ^ (D - P) = 0 ∧ mo = 0))
    (hW : W = M / 10 ^ (D - P) + du_U Q z (du_h (M % 10 ^ (D - P)) (10 ^ (D - P)) mo) (nI (M / 10 ^ (D - P) % 2)))
    (ha : W = 10 ^ P → wX_finish_143 post x w 3 (nI P) (nI Q) r z (lN (10 ^ (P - 1))) (sc + nI (D - P) + 1) 0 a1 a2 a3)
    (hb : ¬ W = 10 ^ P → wX_finish_143 post x w 3 (nI P) (nI Q) r z (lN W) (sc + nI (D - P)) 0 a1 a2 a3) :
    wX_finish_73 post x w f (nI P) (nI Q) r z (lN M) sc mo a1 a2 a3 := by
  have hD18 := du_Dle hD (by omega) hM
  have hW63 : W < 2 ^ 63 := by
    have := Nat.div_le_self M (10 ^ (D - P))
    have := du_U1 Q z (du_h (M % 10 ^ (D - P)) (10 ^ (D - P)) mo) (nI (M / 10 ^ (D - P) % 2))
    omega
  unfold wX_finish_73
  refine du_digitsOf hT hM hD (pk_le D P (fun z => absurd z (by omega)) (fun _ => ?_))
  refine du_drop1 (t := D - P) hT hM (by omega) h0 hQ hz ?_ (pk_sub (by omega))
  dsimp only
  rw [← hW]
  refine ⟨pk_in P 19 (by omega), ?_⟩
  rw [nI_clamp (by omega), hT P (by omega)]
  by_cases e : W = 10 ^ P
  · refine br_t (by rw [e]) ⟨by decide, nm_r ?_ (nm_e (ha e))⟩
    refine (pk_lDiv (b := 10) hW63 (by decide) (by decide)).trans (congrArg lN ?_)
    rw [e, show P = P - 1 + 1 by omega, Nat.pow_succ, Nat.mul_div_cancel _ (by decide), Nat.add_sub_cancel]
  · exact br_f (fun k => e ((pk_lEQ hW63 (du_p63 (by omega))).mp k)) (hb e)
theorem du_fin_zero {post : Int32 → St2 → Prop} {t : Nat} {x : Int32} (d : Nat) (hd : d < 6) (ht : t < 11) (h : post 0 (p, m, r ||| 0, 0, lN 0, nI t - 5, 0, upd a1 d (du_sg 0 0).toInt32, upd a2 d (nI t - 5).toInt8.toInt32, a3)) (hx : x = nI d := by rfl) :
    wpX_finish post (p, m, r, ng, lN 0, sc, 0, a1, a2, a3) x (nI t - 5) := by
  unfold wpX_finish
  dsimp only
  refine br_t rfl (br_t rfl (br_t (Int32.not_lt.mp (du_g0 t ht).1) (br_t (du_g0 t ht).2.1 ?_)))
  unfold wX_finish_45
  refine du_store (M := 0) d hd (Or.inl rfl) ?_ hx
  dsimp only
  exact du_raise h
theorem du_fin_more {post : Int32 → St2 → Prop} {M P Q : Nat} {x w : Int32} (hM : 0 < M) (hM18 : M < 10 ^ 18) (h : wX_finish_73 post x w 0 (nI P) (nI Q) r ng (lN M) sc 1 a1 a2 a3) :
    wpX_finish post (nI P, nI Q, r, ng, lN M, sc, 1, a1, a2, a3) x w := by
  unfold wpX_finish
  dsimp only
  refine br_f (by rw [du_l0 (du_l63 hM18)]; omega) ?_
  unfold wX_finish_59
  exact br_f (by decide) h
theorem du_fin_app {post : Int32 → St2 → Prop} {v k j P Q Dv t : Nat} {x : Int32} (hT : du_T a3) (hv : 0 < v) (hvj : v * 10 ^ j < 10 ^ 18) (hD : du_D v Dv) (ht : t < 11) (hkj : k + j ≤ 18) (hP : P ≤ 7) (h0 : k = 0 → Dv ≤ P) (h1 : 0 < k → ¬ v % 10 = 0)
    (h : wX_finish_73 post x (nI t - 5) 0 (nI P) (nI Q) r ng (lN v) (nI t - 5 - nI k) 0 a1 a2 a3) :
    wpX_finish post (nI P, nI Q, r, ng, lN (v * 10 ^ j), nI t - 5 - nI (k + j), 0, a1, a2, a3) x (nI t - 5) := by
  unfold wpX_finish
  dsimp only
  have hp : 0 < v * 10 ^ j := Nat.mul_pos hv (du_p0 j)
  refine br_f (by rw [du_l0 (du_l63 hvj)]; omega) ?_
  unfold wX_finish_59
  refine br_t rfl ?_
  refine du_approach hT hv hvj hD ht hkj hP h0 h1 ?_
  exact h
end
end
section
/-! ===== apply (division) and quantise ===== -/
section
variable {p m r ng sc mo : Int32} {mg : Int64} {a1 a2 : Nat → Int32} {a3 : Nat → Int64}
/-- a quotient that is exact and fits: v at the shift k -/
theorem du_fin_fit {post : Int32 → St2 → Prop} {v k j P Q Dv t : Nat} {x z : Int32} (d : Nat) (hd : d < 6) (hT : du_T a3) (hv : 0 < v) (hvj : v * 10 ^ j < 10 ^ 18) (hD : du_D v Dv) (ht : t < 11) (hk : k ≤ 9) (hkj : k + j ≤ 18) (hP : P ≤ 7) (hDP : Dv ≤ P) (h1 : 0 < k → ¬ v % 10 = 0) (hz : z = 0 ∨ z = 1)
    (h : post 0 (nI P, nI Q, r ||| 0, z, lN v, nI t - 5 - nI k, 0, upd a1 d (du_sg z v).toInt32, upd a2 d (nI t - 5 - nI k), a3)) (hx : x = nI d := by rfl) :
    wpX_finish post (nI P, nI Q, r, z, lN (v * 10 ^ j), nI t - 5 - nI (k + j), 0, a1, a2, a3) x (nI t - 5) := by
  have hv18 : v < 10 ^ 18 := Nat.lt_of_le_of_lt (Nat.le_mul_of_pos_right v (du_p0 j)) hvj
  obtain ⟨g1, g2, g3, _⟩ := du_g2 t ht k (by omega)
  refine du_fin_app hT hv hvj hD ht hkj hP (fun _ => hDP) h1 (du_f73a hT hv18 hD hDP hP ?_)
  refine du_f143 d hd hz g1 g2 (Or.inl (du_g1 t ht k (by omega)).1) ?_ hx
  rw [g3]
  exact h
/-- behind finish_73: rounded to W at the shift s = u - (D - P) -/
theorem du_fin_round {post : Int32 → St2 → Prop} {A B u D P Q W t : Nat} {x z f : Int32} (d : Nat) (hd : d < 6) (hT : du_T a3) (hB0 : 0 < B) (hM18 : A * 10 ^ u / B < 10 ^ 18) (hD : du_D (A * 10 ^ u / B) D) (hP1 : 3 ≤ P) (hDP : P < D) (hDu : D - P ≤ u) (hs : u - (D - P) ≤ 12) (ht : t < 11) (hQ : Q < 7) (hz : z = 0 ∨ z = 1)
    (hmo : mo = 0 ↔ A * 10 ^ u % B = 0) (h0 : ¬ (A * 10 ^ u / B % 10 ^ (D - P) = 0 ∧ mo = 0))
    (hW : W = A * 10 ^ (u - (D - P)) / B + du_U Q z (du_H (2 * (A * 10 ^ (u - (D - P)) % B)) B) (nI (A * 10 ^ (u - (D - P)) / B % 2)))
    (h : ∀ V E mg sc, (W = 10 ^ P ∧ V = 10 ^ (P - 1) ∧ E = nI t - 5 - nI (u - (D - P)) + 1 ∨ ¬ W = 10 ^ P ∧ V = W ∧ E = nI t - 5 - nI (u - (D - P))) → post 3 (nI P, nI Q, r ||| 3, z, mg, sc, 0, upd a1 d (du_sg z V).toInt32, upd a2 d E, a3)) (hx : x = nI d := by rfl) :
    wX_finish_73 post x (nI t - 5) f (nI P) (nI Q) r z (lN (A * 10 ^ u / B)) (nI t - 5 - nI u) mo a1 a2 a3 := by
  obtain ⟨g1, g2, g3, g4, g5, g6⟩ := du_g2 t ht (u - (D - P)) (by omega)
  refine du_f73b (W := W) hT hM18 hD hP1 hDP hQ hz h0 ?_ (fun e => ?_) (fun e => ?_)
  · rw [du_half hB0 (by omega) hDu hmo, du_dd A B hDu]
    exact hW
  · rw [du_subAdd _ hDu]
    refine du_f143 d hd hz g4 g5 (Or.inr (by decide)) ?_ hx
    rw [g6]
    exact h _ _ _ _ (Or.inl ⟨e, rfl, rfl⟩)
  · rw [du_subAdd _ hDu]
    refine du_f143 d hd hz g1 g2 (Or.inr (by decide)) ?_ hx
    rw [g3]
    exact h _ _ _ _ (Or.inr ⟨e, rfl, rfl⟩)
/-- what division answers, in the law's own words -/
theorem du_apply {post : Int32 → St2 → Prop} {P Q A B t : Nat} {zc zd : Int32} (hT : du_T a3) (hP1 : 3 ≤ P) (hP : P ≤ 7) (hQ : Q < 7) (hA : A ≤ 999) (hB0 : 0 < B) (hB : B ≤ 999) (ht : t < 11)
    (hc : du_S (a1 4) zc A) (hd : du_S (a1 2) zd B) (hg : a2 4 = nI t - 5) (h2 : a2 2 = 0)
    (hx : ∀ k v z ng mg sc mo, k ≤ 9 → (∀ i, A * 10 ^ i % B = 0 ↔ k ≤ i) → v = A * 10 ^ k / B → v < 10 ^ P → (z = (if zc = zd then 0 else 1) ∨ v = 0) → (z = 0 ∨ z = 1) →
      post 0 (nI P, nI Q, 0, ng, mg, sc, mo, upd a1 4 (du_sg z v).toInt32, upd a2 4 (nI t - 5 - nI k), a3))
    (hy : ∀ k s W V E ng mg sc mo, 0 < A → k ≤ 10 → (∀ i, i < 10 → (A * 10 ^ i % B = 0 ↔ k ≤ i)) → (k < 10 → 10 ^ P ≤ A * 10 ^ k / B) → s ≤ 12 → (∀ i, 10 ^ (P - 1) ≤ A * 10 ^ i / B ↔ s ≤ i) →
      W = A * 10 ^ s / B + du_U Q (if zc = zd then 0 else 1) (du_H (2 * (A * 10 ^ s % B)) B) (nI (A * 10 ^ s / B % 2)) →
      (W = 10 ^ P ∧ V = 10 ^ (P - 1) ∧ E = nI t - 5 - nI s + 1 ∨ ¬ W = 10 ^ P ∧ V = W ∧ E = nI t - 5 - nI s) →
      post 3 (nI P, nI Q, 3, ng, mg, sc, mo, upd a1 4 (du_sg (if zc = zd then 0 else 1) V).toInt32, upd a2 4 E, a3)) :
    wpX_apply post (nI P, nI Q, 0, ng, mg, sc, mo, a1, a2, a3) 3 4 4 2 := by
  have c4 : (4 : Int32).toNatClampNeg = 4 := by decide
  have c2 : (2 : Int32).toNatClampNeg = 2 := by decide
  unfold wpX_apply
  dsimp only
  refine br_f (by decide) (br_f (by decide) (du_isReg 4 (by omega) (br_f (by decide) (du_isReg 4 (by omega) (br_f (by decide) (du_isReg 2 (by omega) (br_f (by decide) (br_t rfl ⟨pk_in 2 6 (by omega), br_f ?_ ?_⟩))))))))
  · rw [c2]
    exact du_Sne hd hB hB0
  unfold wX_apply_57
  rw [c4, c2, hg, h2, du_S64 hc hA, du_S64 hd hB, Int32.sub_zero]
  refine ⟨pk_in 4 6 (by omega), nm_e ⟨pk_in 2 6 (by omega), nm_e (br_f (by decide) (br_t rfl ⟨pk_in 4 6 (by omega), pk_in 2 6 (by omega), nm_e ?_⟩))⟩⟩
  obtain ⟨D, hD3, hD⟩ := du_Dex (n := A) (N := 3) (by omega) (by omega)
  have hD1 := hD.1
  refine du_divide hT hA hB0 hB (du_Sz hc) (du_Sp hc) (du_Sz hd) hD hD3 ?_
  dsimp only
  unfold wX_apply_214
  by_cases hA0 : A = 0
  · subst hA0
    rw [if_pos (Or.inr rfl), Nat.zero_mul, Nat.zero_div, Nat.zero_mod, if_pos rfl]
    refine du_fin_zero 4 (by omega) ht ?_
    dsimp only
    have := hx 0 0 0 0 (lN 0) (nI t - 5) 0 (by omega) (fun i => by rw [Nat.zero_mul, Nat.zero_mod]; exact ⟨fun _ => Nat.zero_le i, fun _ => rfl⟩) (by rw [Nat.zero_mul, Nat.zero_div]) (du_p0 P) (Or.inr rfl) (Or.inl rfl)
    rw [du_sub0] at this
    rw [(du_g0 t ht).2.2]
    exact this
  · have hA1 : 0 < A := by omega
    have hMlo := du_M_lo hD hD3 hA1 hB0 hB
    have hMhi := du_M_hi (B := B) hD hD3
    rw [show (if zc = zd ∨ A = 0 then (0 : Int32) else 1) = (if zc = zd then 0 else 1) by simp [hA0]]
    have hz : (if zc = zd then (0 : Int32) else 1) = 0 ∨ (if zc = zd then (0 : Int32) else 1) = 1 := by
      split
      · exact Or.inl rfl
      · exact Or.inr rfl
    generalize (if zc = zd then (0 : Int32) else 1) = z at hx hy hz ⊢
    by_cases e : A * 10 ^ (18 - D) % B = 0
    · rw [if_pos e]
      obtain ⟨k, hk, hkk⟩ := du_k hB0 hB (by omega) e
      have hv0 : 0 < A * 10 ^ k / B := by
        rcases Nat.eq_zero_or_pos (A * 10 ^ k / B) with q | q
        · have w := du_vM (u := 18 - D) hB0 (by omega) ((hkk k).mpr (Nat.le_refl k))
          rw [q, Nat.zero_mul] at w
          omega
        · exact q
      have hvM := du_vM (u := 18 - D) hB0 (by omega) ((hkk k).mpr (Nat.le_refl k))
      rw [hvM] at hMhi ⊢
      have hv18 : A * 10 ^ k / B < 10 ^ 18 := Nat.lt_of_le_of_lt (Nat.le_mul_of_pos_right _ (du_p0 _)) hMhi
      obtain ⟨Dv, hDv, hDD⟩ := du_Dex (by omega) hv18
      have e1 : nI t - 5 - nI (18 - D) = nI t - 5 - nI (k + (18 - D - k)) := by rw [show k + (18 - D - k) = 18 - D by omega]
      rw [e1]
      by_cases hl : Dv ≤ P
      · refine du_fin_fit 4 (by omega) hT hv0 hMhi hDD ht hk (by omega) hP hl (fun q => du_v10 q hkk) hz ?_
        exact hx k _ z _ _ _ _ hk hkk rfl (Nat.lt_of_lt_of_le hDD.2.1 (du_p10 hl)) (Or.inl rfl) hz
      · have hD3k : Dv ≤ 3 + k := du_Dle hDD (by omega) (du_v_hi hA)
        obtain ⟨q1, q2⟩ := du_kept hDD hv0 (show 1 ≤ P by omega) (by omega)
        rw [du_dd A B (show Dv - P ≤ k by omega)] at q1 q2
        have hk0 : 0 < k := by omega
        refine du_fin_app hT hv0 hMhi hDD ht (by omega) hP (fun w => absurd w (by omega)) (fun q => du_v10 q hkk) ?_
        refine du_fin_round (A := A) (B := B) (u := k) 4 (by omega) hT hB0 hv18 hDD hP1 (by omega) (by omega) (by omega) ht hQ hz ⟨fun _ => (hkk k).mpr (Nat.le_refl k), fun _ => rfl⟩ (fun w => ?_) rfl (fun V E mg sc hVE => ?_)
        · refine du_v10 hk0 hkk ?_
          have d1 : 10 ^ (Dv - P) ∣ A * 10 ^ k / B := Nat.dvd_of_mod_eq_zero w.1
          have d2 : 10 ^ 1 ∣ 10 ^ (Dv - P) := Nat.pow_dvd_pow 10 (by omega)
          exact Nat.mod_eq_zero_of_dvd (Nat.dvd_trans d2 d1)
        · refine hy k (k - (Dv - P)) _ V E _ _ _ _ hA1 (by omega) (fun i _ => hkk i) (fun _ => ?_) (by omega) (du_least_s (by omega) q1 q2) rfl hVE
          exact Nat.le_trans (du_p10 (show P ≤ Dv - 1 by omega)) (du_Dlo hDD hv0)
    · rw [if_neg e]
      obtain ⟨DM, hDM, hDD⟩ := du_Dex (by omega) hMhi
      have hDM15 : 14 < DM := du_Dge hDD hMlo
      have hM0 : 0 < A * 10 ^ (18 - D) / B := by omega
      obtain ⟨q1, q2⟩ := du_kept hDD hM0 (show 1 ≤ P by omega) (by omega)
      rw [du_dd A B (show DM - P ≤ 18 - D by omega)] at q1 q2
      refine du_fin_more hM0 hMhi ?_
      refine du_fin_round (A := A) (B := B) (u := 18 - D) 4 (by omega) hT hB0 hMhi hDD hP1 (by omega) (by omega) (by omega) ht hQ hz ⟨fun w => absurd w (by decide), fun w => absurd w e⟩ (fun w => absurd w.2 (by decide)) rfl (fun V E mg sc hVE => ?_)
      exact hy 10 (18 - D - (DM - P)) _ V E _ _ _ _ hA1 (by omega) (fun i hi => ⟨fun w => absurd (du_up0 (show i ≤ 18 - D by omega) w) e, fun w => absurd w (by omega)⟩) (fun w => absurd w (by omega)) (by omega) (du_least_s (by omega) q1 q2) rfl hVE
/-- register 2 to tens, into register 5 -/
theorem du_quant {post : Int32 → St2 → Prop} {P Q B : Nat} {zd : Int32} (hT : du_T a3) (hP1 : 3 ≤ P) (hP : P ≤ 7) (hQ : Q < 7) (hB0 : 0 < B) (hB : B ≤ 999) (hd : du_S (a1 2) zd B) (h2 : a2 2 = 0)
    (h0 : ∀ ng mg sc mo, B % 10 = 0 → post 2 (nI P, nI Q, r ||| 2, ng, mg, sc, mo, upd a1 5 (du_sg zd (B / 10)).toInt32, upd a2 5 1, a3))
    (h1 : ∀ ng mg sc mo, ¬ B % 10 = 0 → post 3 (nI P, nI Q, r ||| 3, ng, mg, sc, mo, upd a1 5 (du_sg zd (B / 10 + du_U Q zd (du_h (B % 10) 10 0) (nI (B / 10 % 2)))).toInt32, upd a2 5 1, a3)) :
    wpX_quantise post (nI P, nI Q, r, ng, mg, sc, mo, a1, a2, a3) 5 2 1 := by
  have c2 : (2 : Int32).toNatClampNeg = 2 := by decide
  unfold wpX_quantise
  dsimp only
  refine du_isReg 5 (by omega) (br_f (by decide) (du_isReg 2 (by omega) (br_f (by decide) (br_f (by decide) (br_t (by decide) ⟨pk_in 2 6 (by omega), pk_in 2 6 (by omega), ?_⟩)))))
  rw [c2, du_S64 hd hB, h2]
  refine du_takeS (du_Sz hd) hB (fun _ => hB0) ?_
  dsimp only
  refine br_f (by rw [du_l0 (by omega)]; omega) (br_f (by decide) ?_)
  have key : ∀ (f : Int32) (N : Nat) (sc mo : Int32), N ≤ 100 → post f (nI P, nI Q, r ||| f, zd, lN N, 1, mo, upd a1 5 (du_sg zd N).toInt32, upd a2 5 1, a3) → wX_quantise_143 post 5 1 f (nI P) (nI Q) r zd (lN N) sc mo a1 a2 a3 := by
    intro f N sc mo hN h
    unfold wX_quantise_143
    refine ⟨pk_in P 19 (by omega), br_t ?_ ?_⟩
    · rw [nI_clamp (by omega), hT P (by omega), pk_lLT (by omega) (du_p63 (by omega))]
      have := du_p10 hP1
      omega
    · refine du_store 5 (by omega) (du_Sz hd) ?_
      dsimp only
      exact du_raise h
  by_cases e : B % 10 = 0
  · refine du_drop0 (t := 1) hT (by omega) (by omega) e ?_
    dsimp only
    exact key 2 (B / 10) _ _ (by omega) (h0 _ _ _ _ e)
  · refine du_drop1 (t := 1) hT (by omega) (by omega) (fun w => e w.1) hQ (du_Sz hd) ?_
    dsimp only
    have := du_U1 Q zd (du_h (B % 10) 10 0) (nI (B / 10 % 2))
    exact key 3 (B / 10 + du_U Q zd (du_h (B % 10) 10 0) (nI (B / 10 % 2))) _ _ (by omega) (h1 _ _ _ _ e)
theorem du_coef {post : Int32 → Prop} {x : Int32} (d : Nat) (hd : d < 6) (h : post (a1 d)) (hx : x = nI d := by rfl) : wpX_coefficient post (p, m, r, ng, mg, sc, mo, a1, a2, a3) x := by
  unfold wpX_coefficient
  dsimp only
  refine du_isReg d hd (br_f (by decide) ⟨pk_in d 6 hd hx, ?_⟩) hx
  rw [pk_cl d hx]
  exact h
theorem du_expo {post : Int32 → Prop} {x : Int32} (d : Nat) (hd : d < 6) (h : post (a2 d)) (hx : x = nI d := by rfl) : wpX_exponent post (p, m, r, ng, mg, sc, mo, a1, a2, a3) x := by
  unfold wpX_exponent
  dsimp only
  refine du_isReg d hd (br_f (by decide) ⟨pk_in d 6 hd hx, ?_⟩) hx
  rw [pk_cl d hx]
  exact h
end
end
section
/-! ===== the law ===== -/
section
variable {post : Int32 → St0 → Prop} {mc ms kc ks : Nat} {p m r ng sc mo : Int32} {mg : Int64} {a1 a2 : Nat → Int32} {a3 : Nat → Int64}
theorem du_680 {B T : Nat} {zd due f q : Int32} (hp : post 1 ()) (hB : B ≤ 999) (h5 : a1 5 = (du_sg zd T).toInt32) (h52 : a2 5 = 1) (hq : q = (if B % 10 = 0 then 0 else 1)) (hf : due ||| f = (due ||| 2) ||| q) :
    wL_lawOf_680 post mc ms due (lN (B % 10)) (du_sg zd T) (a1 5) kc ks p m (due ||| f) ng mg sc mo a1 a2 a3 := by
  have key : wL_lawOf_717 post mc ms q (due ||| 2) (due ||| f) kc ks p m 0 ng mg sc mo a1 a2 a3 := by
    unfold wL_lawOf_717
    refine br_t hf ?_
    exact br_t rfl hp
  unfold wL_lawOf_680
  refine br_t h5 ?_
  refine du_expo 5 (by omega) (br_t h52 ?_)
  unfold wpX_lower
  dsimp only
  by_cases e : B % 10 = 0
  · rw [if_pos e] at hq
    subst hq
    exact br_t (by rw [e]; rfl) key
  · rw [if_neg e] at hq
    subst hq
    exact br_f (by rw [du_l0 (by omega)]; exact e) key
theorem du_661 {B T : Nat} {zd due f q d : Int32} (hp : post 1 ()) (hB : B ≤ 999) (hd : du_S d zd B) (h5 : a1 5 = (du_sg zd T).toInt32) (h52 : a2 5 = 1) (hq : q = (if B % 10 = 0 then 0 else 1)) (hf : due ||| f = (due ||| 2) ||| q) :
    wL_lawOf_661 post mc ms d due (lN T) (lN (B % 10)) kc ks p m (due ||| f) ng mg sc mo a1 a2 a3 := by
  have key : wL_lawOf_680 post mc ms due (lN (B % 10)) (du_sg zd T) (a1 5) kc ks p m (due ||| f) ng mg sc mo a1 a2 a3 := du_680 hp hB h5 h52 hq hf
  have hs := du_Spos hd hB
  unfold wL_lawOf_661
  refine du_coef 5 (by omega) ?_
  rcases du_Sz hd with e | e
  · subst e
    exact br_t (hs.mpr rfl) key
  · subst e
    exact br_f (fun w => absurd (hs.mp w) (by decide)) key
/-- the half of the tens -/
theorem du_h10 (l : Nat) : du_h l 10 0 = (if 5 ≤ l then (if l = 5 then 0 else 1) else -1) := by
  unfold du_h
  by_cases e : l < 5
  · rw [if_pos (by omega), if_neg (by omega)]
  · rw [if_neg (by omega), if_pos (show 5 ≤ l by omega)]
    by_cases e2 : l = 5
    · rw [if_pos (by omega), if_pos e2, if_pos rfl]
    · rw [if_neg (by omega), if_neg e2]
theorem du_620 {B Q : Nat} {zd due d o : Int32} (hp : post 1 ()) (hQ : Q < 7) (hB : B ≤ 999) (hl : ¬ B % 10 = 0) (hd : du_S d zd B) (ho : o = nI (B / 10 % 2)) (hdue : due = 0 ∨ due = 3)
    (h5 : a1 5 = (du_sg zd (B / 10 + du_U Q zd (du_h (B % 10) 10 0) (nI (B / 10 % 2)))).toInt32) (h52 : a2 5 = 1) :
    wL_lawOf_620 post mc ms d due (lN (B / 10)) (lN (B % 10)) o zd (nI Q) kc ks p m (due ||| 3) ng mg sc mo a1 a2 a3 := by
  have hf : due ||| 3 = (due ||| 2) ||| 1 := by rcases hdue with rfl | rfl <;> decide
  have ho2 : o = 0 ∨ o = 1 := by
    rw [ho]
    rcases Nat.mod_two_eq_zero_or_one (B / 10) with q | q
    · rw [q]
      exact Or.inl rfl
    · rw [q]
      exact Or.inr rfl
  have key : ∀ h : Int32, h = du_h (B % 10) 10 0 → wL_lawOf_647 post mc ms d due (lN (B / 10)) (lN (B % 10)) o h zd (nI Q) kc ks p m (due ||| 3) ng mg sc mo a1 a2 a3 := by
    intro h eh
    unfold wL_lawOf_647
    refine du_up hQ (du_Sz hd) (eh ▸ du_h3 _ _ _) ho2 ?_
    rw [eh, ho]
    have hu := du_U1 Q zd (du_h (B % 10) 10 0) (nI (B / 10 % 2))
    generalize du_U Q zd (du_h (B % 10) 10 0) (nI (B / 10 % 2)) = u at h5 hu ⊢
    rcases hu with rfl | rfl
    · exact br_t rfl (du_661 hp hB hd h5 h52 (if_neg hl).symm hf)
    · exact br_f (by decide) (nm_r (lN_1 _) (du_661 hp hB hd h5 h52 (if_neg hl).symm hf))
  have e := du_h10 (B % 10)
  unfold wL_lawOf_620
  by_cases e5 : 5 ≤ B % 10
  · rw [if_pos e5] at e
    refine br_t ((pk_lLE (a := 5) (by omega) (by omega)).mpr e5) ?_
    by_cases e6 : B % 10 = 5
    · rw [if_pos e6] at e
      exact br_t ((pk_lEQ (b := 5) (by omega) (by omega)).mpr e6) (key _ e.symm)
    · rw [if_neg e6] at e
      exact br_f (fun w => e6 ((pk_lEQ (b := 5) (by omega) (by omega)).mp w)) (key _ e.symm)
  · rw [if_neg e5] at e
    exact br_f (fun w => e5 ((pk_lLE (a := 5) (by omega) (by omega)).mp w)) (key _ e.symm)
theorem du_599 {B Q : Nat} {zd due d o f : Int32} (hp : post 1 ()) (hQ : Q < 7) (hB : B ≤ 999) (hd : du_S d zd B) (ho : o = nI (B / 10 % 2)) (hdue : due = 0 ∨ due = 3)
    (h5 : B % 10 = 0 ∧ f = 2 ∧ a1 5 = (du_sg zd (B / 10)).toInt32 ∨ ¬ B % 10 = 0 ∧ f = 3 ∧ a1 5 = (du_sg zd (B / 10 + du_U Q zd (du_h (B % 10) 10 0) (nI (B / 10 % 2)))).toInt32) (h52 : a2 5 = 1) :
    wL_lawOf_599 post mc ms d (nI Q) due (lN (B / 10)) (lN (B % 10)) o kc ks p m (due ||| f) ng mg sc mo a1 a2 a3 := by
  unfold wL_lawOf_599
  rcases h5 with ⟨e, rfl, h5⟩ | ⟨e, rfl, h5⟩
  · exact br_t (by rw [e]; rfl) (du_661 hp hB hd h5 h52 (if_pos e).symm (by rcases hdue with rfl | rfl <;> decide))
  · refine br_f (by rw [du_l0 (by omega)]; exact e) ?_
    have hs := du_Spos hd hB
    have k := du_620 (mc := mc) (ms := ms) (kc := kc) (ks := ks) (p := p) (m := m) (ng := ng) (sc := sc) (mo := mo) (mg := mg) (a3 := a3) hp hQ hB e hd ho hdue h5 h52
    rcases du_Sz hd with e0 | e0
    · subst e0
      exact br_t (hs.mpr rfl) k
    · subst e0
      exact br_f (fun w => absurd (hs.mp w) (by decide)) k
theorem du_561 {B Q : Nat} {zd due d f q : Int32} (hp : post 1 ()) (hQ : Q < 7) (hB : B ≤ 999) (hd : du_S d zd B) (hdue : due = 0 ∨ due = 3) (hf : f = 2 ||| q)
    (h5 : B % 10 = 0 ∧ f = 2 ∧ a1 5 = (du_sg zd (B / 10)).toInt32 ∨ ¬ B % 10 = 0 ∧ f = 3 ∧ a1 5 = (du_sg zd (B / 10 + du_U Q zd (du_h (B % 10) 10 0) (nI (B / 10 % 2)))).toInt32) (h52 : a2 5 = 1) :
    wL_lawOf_561 post mc ms d (nI Q) (lN B) due q 2 f kc ks p m (due ||| f) ng mg sc mo a1 a2 a3 := by
  unfold wL_lawOf_561
  refine br_t hf ⟨by decide, nm_r (pk_lDiv (b := 10) (by omega) (by decide) (by decide)) ⟨by decide, nm_r (pk_lRem (b := 10) (by omega) (by decide) (by decide)) ⟨by decide, ?_⟩⟩⟩
  have e2 : lN (B / 10) - lN (B / 10) / 2 * 2 = lN (B / 10 % 2) := pk_lRem (b := 2) (by omega) (by decide) (by decide)
  rw [e2]
  rcases Nat.mod_two_eq_zero_or_one (B / 10) with w | w
  · exact br_f (by rw [w]; decide) (du_599 hp hQ hB hd (by rw [w]; rfl) hdue h5 h52)
  · exact br_t (by rw [w]; rfl) (du_599 hp hQ hB hd (by rw [w]; rfl) hdue h5 h52)
/-- behind the law's reckoning: value V, exponent E, flags due -/
theorem du_462 {P Q B V t : Nat} {zd z due d E : Int32} (hp : post 1 ()) (hT : du_T a3) (hP1 : 3 ≤ P) (hP : P ≤ 7) (hQ : Q < 7) (hB0 : 0 < B) (hB : B ≤ 999) (hd : du_S d zd B) (hdue : due = 0 ∨ due = 3) (hz : z = 0 ∨ z = 1)
    (h2 : a1 2 = d) (h22 : a2 2 = 0) (h4 : a1 4 = (du_sg z V).toInt32) (h42 : a2 4 = E) :
    wL_lawOf_462 post mc ms d (nI Q) (nI t - 5) (lN B) z due (lN V) due E kc ks (nI P) (nI Q) due ng mg sc mo a1 a2 a3 := by
  have key : wL_lawOf_488 post mc ms d (nI Q) (nI t - 5) (lN B) due E (du_sg z V) (a1 4) kc ks (nI P) (nI Q) due ng mg sc mo a1 a2 a3 := by
    unfold wL_lawOf_488
    refine br_t h4 ?_
    refine du_expo 4 (by omega) (br_t h42 ?_)
    unfold wpX_flags
    dsimp only
    refine br_t rfl (br_c (fun _ => ?_) (fun _ => ?_))
    · refine du_quant hT hP1 hP hQ hB0 hB (h2 ▸ hd) h22 (fun ng mg sc mo e => ?_) (fun ng mg sc mo e => ?_)
      · dsimp only
        refine ⟨by decide, br_t ?_ (du_561 hp hQ hB hd hdue (by decide) (Or.inl ⟨e, rfl, pk_us⟩) pk_us)⟩
        refine (pk_lRem (b := 10) (by omega) (by decide) (by decide)).trans ?_
        rw [e]
        rfl
      · dsimp only
        refine ⟨by decide, br_f (fun w => ?_) (du_561 hp hQ hB hd hdue (by decide) (Or.inr ⟨e, rfl, pk_us⟩) pk_us)⟩
        have w2 := (pk_lRem (a := B) (b := 10) (by omega) (by decide) (by decide)).symm.trans w
        exact e ((du_l0 (by omega)).mp w2)
    · unfold wpX_lower
      dsimp only
      exact br_t rfl hp
  unfold wL_lawOf_462
  refine br_t rfl ?_
  refine du_coef 4 (by omega) ?_
  rcases hz with rfl | rfl
  · exact br_t rfl key
  · exact br_f (by decide) key
/-! the law's rounding -/
theorem du_420 {P W V s : Nat} {x6 x7 x8 x9 x14 x16 E : Int32} {x12 : Int64} (hP1 : 3 ≤ P) (hP : P ≤ 7) (hW : W < 2 ^ 63) (hV : W = 10 ^ P ∧ V = 10 ^ (P - 1) ∧ E = x9 - nI s + 1 ∨ ¬ W = 10 ^ P ∧ V = W ∧ E = x9 - nI s)
    (H : wL_lawOf_453 post mc ms x6 x7 x8 x9 x12 x14 x16 (lN V) 3 E kc ks p m r ng mg sc mo a1 a2 a3) :
    wL_lawOf_420 post mc ms (nI P) x6 x7 x8 x9 x12 x14 x16 (lN W) (nI s) kc ks p m r ng mg sc mo a1 a2 a3 := by
  unfold wL_lawOf_420
  refine nm_e (du_power P (by omega) ?_)
  rcases hV with ⟨e, rfl, rfl⟩ | ⟨e, rfl, rfl⟩
  · exact br_t (by rw [e]) (du_power (P - 1) (by omega) (nm_e H) (du_pred (by omega)))
  · exact br_f (fun w => e ((pk_lEQ hW (du_p63 (by omega))).mp w)) H
theorem du_384 {P Q W V v s : Nat} {x6 x7 x9 z x16 E h : Int32} {x12 : Int64} (hP1 : 3 ≤ P) (hP : P ≤ 7) (hQ : Q < 7) (hz : z = 0 ∨ z = 1) (hh : h = -1 ∨ h = 0 ∨ h = 1) (hv : v < 10 ^ 18) (hW : W = v + du_U Q z h (nI (v % 2)))
    (hV : W = 10 ^ P ∧ V = 10 ^ (P - 1) ∧ E = x9 - nI s + 1 ∨ ¬ W = 10 ^ P ∧ V = W ∧ E = x9 - nI s)
    (H : wL_lawOf_453 post mc ms x6 x7 (nI Q) x9 x12 z x16 (lN V) 3 E kc ks p m r ng mg sc mo a1 a2 a3) :
    wL_lawOf_384 post mc ms (nI P) x6 x7 (nI Q) x9 x12 z x16 (lN v) (nI s) h kc ks p m r ng mg sc mo a1 a2 a3 := by
  have hu := du_U1 Q z h (nI (v % 2))
  have hW63 : W < 2 ^ 63 := by omega
  have key : ∀ o : Int32, o = nI (v % 2) → (o = 0 ∨ o = 1) → wL_lawOf_408 post mc ms (nI P) x6 x7 (nI Q) x9 x12 z x16 (lN v) (nI s) o h z (nI Q) kc ks p m r ng mg sc mo a1 a2 a3 := by
    intro o eo ho
    unfold wL_lawOf_408
    refine du_up hQ hz hh ho ?_
    rw [eo]
    have k := du_420 (x6 := x6) (x7 := x7) (x8 := nI Q) (x14 := z) (x16 := x16) hP1 hP hW63 hV H
    generalize du_U Q z h (nI (v % 2)) = u at hW hu ⊢
    rcases hu with rfl | rfl
    · rw [hW] at k
      exact br_t rfl k
    · rw [hW] at k
      exact br_f (by decide) (nm_r (lN_1 _) k)
  have e2 : lN v - lN v / 2 * 2 = lN (v % 2) := pk_lRem (b := 2) (du_l63 hv) (by decide) (by decide)
  unfold wL_lawOf_384
  refine ⟨by decide, ?_⟩
  rw [e2]
  rcases Nat.mod_two_eq_zero_or_one v with w | w
  · exact br_f (by rw [w]; decide) (key 0 (by rw [w]; rfl) (Or.inl rfl))
  · exact br_t (by rw [w]; rfl) (key 1 (by rw [w]; rfl) (Or.inr rfl))
theorem du_A15 {A i : Nat} (hA : A ≤ 999) (hi : i ≤ 12) : A * 10 ^ i < 10 ^ 15 := by
  have h := Nat.mul_le_mul hA (du_p10 hi)
  omega
/-- the loop that seeks the shift s -/
theorem du_292 {P Q A B W V s : Nat} {x6 x7 x9 z x16 E : Int32} (hP1 : 3 ≤ P) (hP : P ≤ 7) (hQ : Q < 7) (hA : A ≤ 999) (hB0 : 0 < B) (hB : B ≤ 999) (hz : z = 0 ∨ z = 1) (hs : s ≤ 12) (hss : ∀ i, 10 ^ (P - 1) ≤ A * 10 ^ i / B ↔ s ≤ i)
    (hW : W = A * 10 ^ s / B + du_U Q z (du_H (2 * (A * 10 ^ s % B)) B) (nI (A * 10 ^ s / B % 2)))
    (hV : W = 10 ^ P ∧ V = 10 ^ (P - 1) ∧ E = x9 - nI s + 1 ∨ ¬ W = 10 ^ P ∧ V = W ∧ E = x9 - nI s)
    (H : wL_lawOf_453 post mc ms x6 x7 (nI Q) x9 (lN B) z x16 (lN V) 3 E kc ks p m r ng mg sc mo a1 a2 a3) :
    ∃ fu, wL_lawOf_292 post mc ms (nI P) x6 x7 (nI Q) x9 (lN A) (lN B) z x16 kc ks p m r ng mg sc mo a1 a2 a3 fu 0 12 := by
  have hBl : ¬ lN B = 0 := fun k => absurd ((du_l0 (by omega)).mp k) (by omega)
  have h := pk_loopD (σ := Unit) (fun n j _ => wL_lawOf_292 post mc ms (nI P) x6 x7 (nI Q) x9 (lN A) (lN B) z x16 kc ks p m r ng mg sc mo a1 a2 a3 n (nI (if j = 13 then 0 else max j s)) (nI j - 1)) (fun j _ => j ≤ 13) (fun n _ _ => ?_) (fun n j _ hj hw => ?_) 13 () (Nat.le_refl 13)
  · refine ⟨14, ?_⟩
    have h' : wL_lawOf_292 post mc ms (nI P) x6 x7 (nI Q) x9 (lN A) (lN B) z x16 kc ks p m r ng mg sc mo a1 a2 a3 14 (nI 0) (nI 13 - 1) := h
    rw [show nI 13 - 1 = 12 by decide, nI_0] at h'
    exact h'
  · show wL_lawOf_292 post mc ms (nI P) x6 x7 (nI Q) x9 (lN A) (lN B) z x16 kc ks p m r ng mg sc mo a1 a2 a3 (n + 1) (nI (if 0 = 13 then 0 else max 0 s)) (nI 0 - 1)
    rw [if_neg (by decide), Nat.zero_max]
    have hX := du_A15 hA hs
    have key : ∀ h : Int32, h = du_H (2 * (A * 10 ^ s % B)) B → wL_lawOf_384 post mc ms (nI P) x6 x7 (nI Q) x9 (lN B) z x16 (lN (A * 10 ^ s / B)) (nI s) h kc ks p m r ng mg sc mo a1 a2 a3 := by
      intro h eh
      refine du_384 hP1 hP hQ hz (eh ▸ du_H3 _ _) (by have := Nat.div_le_self (A * 10 ^ s) B; omega) ?_ hV H
      rw [eh]
      exact hW
    have hm := Nat.mod_lt (A * 10 ^ s) hB0
    refine br_t (by decide) (du_power s (by omega) ⟨hBl, nm_r (e' := lN (A * 10 ^ s / B)) ?_ (du_power s (by omega) ⟨hBl, nm_r (e' := lN (2 * (A * 10 ^ s % B))) ?_ ?_⟩)⟩)
    · rw [lN_mul, pk_lDiv (by omega) hB0 (by omega)]
    · rw [lN_mul, pk_lRem (by omega) hB0 (by omega), Nat.mul_comm 2]
      exact lN_mul _ 2
    · unfold du_H at key
      by_cases c1 : 2 * (A * 10 ^ s % B) < B
      · refine br_f (by rw [pk_lLE (by omega) (by omega)]; omega) (key (-1) ?_)
        rw [if_pos c1]
      · refine br_t (by rw [pk_lLE (by omega) (by omega)]; omega) ?_
        by_cases c2 : 2 * (A * 10 ^ s % B) = B
        · refine br_t (by rw [pk_lEQ (by omega) (by omega)]; exact c2) (key 0 ?_)
          rw [if_neg c1, if_pos c2]
        · refine br_f (by rw [pk_lEQ (by omega) (by omega)]; exact c2) (key 1 ?_)
          rw [if_neg c1, if_neg c2]
  · show wL_lawOf_292 post mc ms (nI P) x6 x7 (nI Q) x9 (lN A) (lN B) z x16 kc ks p m r ng mg sc mo a1 a2 a3 (n + 1) (nI (if j + 1 = 13 then 0 else max (j + 1) s)) (nI (j + 1) - 1)
    have hj' : j + 1 ≤ 13 := hj
    have hw' : wL_lawOf_292 post mc ms (nI P) x6 x7 (nI Q) x9 (lN A) (lN B) z x16 kc ks p m r ng mg sc mo a1 a2 a3 n (nI (if j = 13 then 0 else max j s)) (nI j - 1) := hw () (by omega)
    rw [if_neg (by omega)] at hw'
    rw [nI_pred]
    have hX := du_A15 (i := j) hA (by omega)
    have hm1 : nI j + (-1) = nI j - 1 := (Int32.sub_eq_add_neg _ _).symm
    refine br_f (nI_pos (by omega)) (du_power j (by omega) ⟨hBl, du_power (P - 1) (by omega) ?_ (du_pred (by omega))⟩)
    rw [lN_mul, pk_lDiv (by omega) hB0 (by omega)]
    have hq : A * 10 ^ j / B < 2 ^ 63 := by have := Nat.div_le_self (A * 10 ^ j) B; omega
    by_cases c : s ≤ j
    · refine br_f (by rw [pk_lLT hq (du_p63 (by omega))]; have := (hss j).mpr c; omega) (nm_r hm1 ?_)
      rw [Nat.max_eq_left c] at hw'
      exact hw'
    · refine br_t (by rw [pk_lLT hq (du_p63 (by omega))]; have := mt (hss j).mp c; omega) (nm_r hm1 ?_)
      rw [if_neg (by omega), Nat.max_eq_right (by omega)]
      rw [Nat.max_eq_right (by omega)] at hw'
      exact hw'
/-- the loop that seeks the shift k; then both roads -/
theorem du_190 {A B k : Nat} {x5 x6 x7 x8 x9 z x16 : Int32} (hA : A ≤ 999) (hB0 : 0 < B) (hB : B ≤ 999) (hk : k ≤ 10) (hkk : ∀ i, i < 10 → (A * 10 ^ i % B = 0 ↔ k ≤ i))
    (H : wL_lawOf_243 post mc ms x5 x6 x7 x8 x9 (lN A) (lN B) z x16 (nI k) (lN (if k < 10 then A * 10 ^ k / B else 0)) kc ks p m r ng mg sc mo a1 a2 a3) :
    ∃ fu, wL_lawOf_190 post mc ms x5 x6 x7 x8 x9 (lN A) (lN B) z x16 kc ks p m r ng mg sc mo a1 a2 a3 fu 10 9 := by
  have hBl : ¬ lN B = 0 := fun k => absurd ((du_l0 (by omega)).mp k) (by omega)
  have h := pk_loopD (σ := Unit) (fun n j _ => wL_lawOf_190 post mc ms x5 x6 x7 x8 x9 (lN A) (lN B) z x16 kc ks p m r ng mg sc mo a1 a2 a3 n (nI (max j k)) (nI j - 1)) (fun j _ => j ≤ 10) (fun n _ _ => ?_) (fun n j _ hj hw => ?_) 10 () (Nat.le_refl 10)
  · refine ⟨11, ?_⟩
    have h' : wL_lawOf_190 post mc ms x5 x6 x7 x8 x9 (lN A) (lN B) z x16 kc ks p m r ng mg sc mo a1 a2 a3 11 (nI (max 10 k)) (nI 10 - 1) := h
    rw [Nat.max_eq_left hk, show nI 10 - 1 = 9 by decide] at h'
    exact h'
  · show wL_lawOf_190 post mc ms x5 x6 x7 x8 x9 (lN A) (lN B) z x16 kc ks p m r ng mg sc mo a1 a2 a3 (n + 1) (nI (max 0 k)) (nI 0 - 1)
    rw [Nat.zero_max]
    refine br_t (by decide) (pk_le 10 k (fun w => ?_) (fun w => ?_))
    · rw [if_neg (by omega)] at H
      exact H
    · rw [if_pos w] at H
      have hX := du_A15 (i := k) hA (by omega)
      refine du_power k (by omega) ⟨hBl, ?_⟩
      rw [lN_mul, pk_lDiv (by omega) hB0 (by omega)]
      exact H
  · show wL_lawOf_190 post mc ms x5 x6 x7 x8 x9 (lN A) (lN B) z x16 kc ks p m r ng mg sc mo a1 a2 a3 (n + 1) (nI (max (j + 1) k)) (nI (j + 1) - 1)
    have hj' : j + 1 ≤ 10 := hj
    have hw' : wL_lawOf_190 post mc ms x5 x6 x7 x8 x9 (lN A) (lN B) z x16 kc ks p m r ng mg sc mo a1 a2 a3 n (nI (max j k)) (nI j - 1) := hw () (by omega)
    rw [nI_pred]
    have hX := du_A15 (i := j) hA (by omega)
    have hm1 : nI j + (-1) = nI j - 1 := (Int32.sub_eq_add_neg _ _).symm
    have hm := Nat.mod_lt (A * 10 ^ j) hB0
    refine br_f (nI_pos (by omega)) (du_power j (by omega) ⟨hBl, ?_⟩)
    rw [lN_mul, pk_lRem (by omega) hB0 (by omega)]
    by_cases c : k ≤ j
    · refine br_t (by rw [(hkk j (by omega)).mpr c]; rfl) (nm_r hm1 ?_)
      rw [Nat.max_eq_left c] at hw'
      exact hw'
    · refine br_f (by rw [du_l0 (by omega)]; exact mt (hkk j (by omega)).mp c) (nm_r hm1 ?_)
      rw [Nat.max_eq_right (by omega)]
      rw [Nat.max_eq_right (by omega)] at hw'
      exact hw'
/-- exact and it fits -/
theorem du_243a {P A B k : Nat} {x6 x7 x8 x9 z x16 : Int32} (hP : P ≤ 7) (hA : A ≤ 999) (hk : k ≤ 9) (hf : A * 10 ^ k / B < 10 ^ P)
    (H : wL_lawOf_453 post mc ms x6 x7 x8 x9 (lN B) z x16 (lN (A * 10 ^ k / B)) 0 (x9 - nI k) kc ks p m r ng mg sc mo a1 a2 a3) :
    wL_lawOf_243 post mc ms (nI P) x6 x7 x8 x9 (lN A) (lN B) z x16 (nI k) (lN (if k < 10 then A * 10 ^ k / B else 0)) kc ks p m r ng mg sc mo a1 a2 a3 := by
  have hX := du_A15 (i := k) hA (by omega)
  have hq : A * 10 ^ k / B < 2 ^ 63 := by have := Nat.div_le_self (A * 10 ^ k) B; omega
  rw [if_pos (by omega)]
  unfold wL_lawOf_243
  refine nm_e (pk_le 10 k (fun w => absurd w (by omega)) (fun _ => du_power P (by omega) (br_f ?_ ?_)))
  · rw [pk_lLE (du_p63 (by omega)) hq]
    omega
  · unfold wL_lawOf_278
    exact br_f (by decide) H
/-- not so: to the loop of s -/
theorem du_243b {P A B k : Nat} {x6 x7 x8 x9 z x16 : Int32} (hP : P ≤ 7) (hA : A ≤ 999) (hk : k ≤ 10) (hf : k < 10 → 10 ^ P ≤ A * 10 ^ k / B)
    (H : ∃ fu, wL_lawOf_292 post mc ms (nI P) x6 x7 x8 x9 (lN A) (lN B) z x16 kc ks p m r ng mg sc mo a1 a2 a3 fu 0 12) :
    wL_lawOf_243 post mc ms (nI P) x6 x7 x8 x9 (lN A) (lN B) z x16 (nI k) (lN (if k < 10 then A * 10 ^ k / B else 0)) kc ks p m r ng mg sc mo a1 a2 a3 := by
  have key : ∀ v E, wL_lawOf_277 post mc ms (nI P) x6 x7 x8 x9 (lN A) (lN B) z x16 v 0 E kc ks p m r ng mg sc mo a1 a2 a3 := by
    intro v E
    unfold wL_lawOf_277 wL_lawOf_278
    exact br_t rfl H
  unfold wL_lawOf_243
  refine nm_e (pk_le 10 k (fun w => key _ _) (fun w => du_power P (by omega) (br_t ?_ (key _ _))))
  have hX := du_A15 (i := k) hA (by omega)
  have hq : A * 10 ^ k / B < 2 ^ 63 := by have := Nat.div_le_self (A * 10 ^ k) B; omega
  rw [if_pos w, pk_lLE (du_p63 (by omega)) hq]
  exact hf w
end
end
section
/-! ===== the law's head, and what is owed ===== -/
theorem du_sg0 {z z' : Int32} (h : z = 0 ∨ z = 1) (h' : z' = 0 ∨ z' = 1) : (du_sg z 0).toInt32 = (du_sg z' 0).toInt32 := by
  rcases h with rfl | rfl <;> rcases h' with rfl | rfl <;> decide
section
variable {post : Int32 → St0 → Prop} {mc ms : Nat}
/-- from apply on -/
theorem du_rest_law {kc ks P Q A B t : Nat} {c d zc zd ng sc mo : Int32} {mg : Int64} {a1 a2 : Nat → Int32} {a3 : Nat → Int64} (hp : post 1 ()) (hT : du_T a3) (hP1 : 3 ≤ P) (hP : P ≤ 7) (hQ : Q < 7) (hA : A ≤ 999) (hB0 : 0 < B) (hB : B ≤ 999) (ht : t < 11)
    (hc : du_S c zc A) (hd : du_S d zd B) (h4 : a1 4 = c) (h2 : a1 2 = d) (hg : a2 4 = nI t - 5) (h22 : a2 2 = 0) :
    wpX_apply (fun r u => match u with | (f0, f1, f2, f3, f4, f5, f6, b1, b2, b3) => (∃ fu : Nat, wL_lawOf_190 post mc ms (nI P) c d (nI Q) (nI t - 5) (lN A) (lN B) (if zc = zd then 0 else 1) r kc ks f0 f1 f2 f3 f4 f5 f6 b1 b2 b3 fu 10 9)) (nI P, nI Q, 0, ng, mg, sc, mo, a1, a2, a3) 3 4 4 2 := by
  have hz : (if zc = zd then (0 : Int32) else 1) = 0 ∨ (if zc = zd then (0 : Int32) else 1) = 1 := by
    split
    · exact Or.inl rfl
    · exact Or.inr rfl
  refine du_apply hT hP1 hP hQ hA hB0 hB ht (h4 ▸ hc) (h2 ▸ hd) hg h22 (fun k v z ng mg sc mo hk hkk hv hvP hzz hz' => ?_) (fun k s W V E ng mg sc mo hA1 hk hkk hf hs hss hW hV => ?_)
  · dsimp only
    subst hv
    refine du_190 hA hB0 hB (by omega) (fun i _ => hkk i) (du_243a hP hA hk hvP ?_)
    have e4 : (du_sg z (A * 10 ^ k / B)).toInt32 = (du_sg (if zc = zd then (0 : Int32) else 1) (A * 10 ^ k / B)).toInt32 := by
      rcases hzz with e | e
      · rw [e]
      · rw [e]
        exact du_sg0 hz' hz
    have key : wL_lawOf_462 post mc ms d (nI Q) (nI t - 5) (lN B) (if zc = zd then (0 : Int32) else 1) 0 (lN (A * 10 ^ k / B)) 0 (nI t - 5 - nI k) kc ks (nI P) (nI Q) 0 ng mg sc mo (upd a1 4 (du_sg z (A * 10 ^ k / B)).toInt32) (upd a2 4 (nI t - 5 - nI k)) a3 :=
      du_462 hp hT hP1 hP hQ hB0 hB hd (Or.inl rfl) hz ((pk_un (by decide)).trans h2) ((pk_un (by decide)).trans h22) (pk_us.trans e4) pk_us
    unfold wL_lawOf_453
    refine br_c (fun e => ?_) (fun _ => key)
    have hA0 : A = 0 := by
      rcases Nat.eq_zero_or_pos A with q | q
      · exact q
      · exact absurd e (du_Sne hc hA q)
    have hk0 : k = 0 := by
      have := (hkk 0).mp (by rw [hA0, Nat.zero_mul, Nat.zero_mod])
      omega
    have e9 : nI t - 5 - nI k = nI t - 5 := by rw [hk0, du_sub0]
    rw [e9] at key ⊢
    exact key
  · dsimp only
    refine du_190 hA hB0 hB hk hkk (du_243b hP hA hk hf (du_292 hP1 hP hQ hA hB0 hB hz hs hss hW hV ?_))
    unfold wL_lawOf_453
    exact br_f (du_Sne hc hA hA1) (du_462 hp hT hP1 hP hQ hB0 hB hd (Or.inr rfl) hz ((pk_un (by decide)).trans h2) ((pk_un (by decide)).trans h22) pk_us pk_us)
theorem du_123 {P Q A B t : Nat} {c d zc zd : Int32} (hmc : 4 ≤ mc) (hms : 41 ≤ ms) (hp : post 1 ()) (hP1 : 3 ≤ P) (hP : P ≤ 7) (hQ : Q < 7) (hA : A ≤ 999) (hB0 : 0 < B) (hB : B ≤ 999) (ht : t < 11) (hc : du_S c zc A) (hd : du_S d zd B) :
    wL_lawOf_123 post mc ms (nI P) c d (nI Q) (nI t - 5) (lN A) (lN B) (if zc = zd then 0 else 1) 0 0 := by
  obtain ⟨g1, g2, g3⟩ := du_g0 t ht
  unfold wL_lawOf_123
  refine ⟨by omega, by omega, 3, 31, by omega, by omega, ?_⟩
  refine du_init (Nat.le_refl 3) (Nat.le_refl 31) hP1 hP (fun a3 hT => ?_)
  dsimp only
  refine du_mode hQ ?_
  dsimp only
  refine du_set 4 hT hP1 hP hA hc g1 g2 (by omega) ?_
  dsimp only
  refine br_f (by decide) ?_
  refine du_set 2 hT hP1 hP hB hd (by decide) (by decide) (by omega) ?_
  dsimp only
  refine br_f (by decide) ?_
  exact du_rest_law hp hT hP1 hP hQ hA hB0 hB ht hc hd ((pk_un (by decide)).trans pk_us) pk_us (((pk_un (by decide)).trans pk_us).trans g3) (pk_us.trans (by decide))
theorem du_abs {c z : Int32} {A : Nat} {X : Int64 → Prop} (h : du_S c z A) (hA : A ≤ 999) (H : X (lN A)) : (0 ≤ c → X c.toInt64) ∧ (¬ 0 ≤ c → X (-c).toInt64) := by
  have hs := du_Spos h hA
  rcases h with ⟨rfl, rfl⟩ | ⟨rfl, _, rfl⟩
  · refine br_t (hs.mpr rfl) ?_
    rw [nI_l (by omega)]
    exact H
  · refine br_f (fun w => absurd (hs.mp w) (by decide)) ?_
    rw [Int32.neg_neg, nI_l (by omega)]
    exact H
theorem du_36 {P A B : Nat} {c d zc zd x3 x4 : Int32} (hmc : 4 ≤ mc) (hms : 41 ≤ ms) (hp : post 1 ()) (hP1 : 3 ≤ P) (hP : P ≤ 7) (hA : A ≤ 999) (hB0 : 0 < B) (hB : B ≤ 999) (hc : du_S c zc A) (hd : du_S d zd B) :
    wL_lawOf_36 post mc ms x3 x4 (nI P) c d 0 0 := by
  obtain ⟨j, hj, ej⟩ := pk_andE x3 (m := 255) 8 (by decide)
  obtain ⟨l, hl, el⟩ := pk_andE x4 (m := 255) 8 (by decide)
  have hj' : j < 256 := hj
  have hl' : l < 256 := hl
  unfold wL_lawOf_36
  rw [ej, el]
  refine ⟨by decide, nm_r (pk_rem (d := 7) (by omega) (by decide) (by decide)) ⟨by decide, nm_r (congrArg (· - 5) (pk_rem (a := l) (d := 11) (by omega) (by decide) (by decide))) ?_⟩⟩
  have hsc := du_Spos hc hA
  have hsd := du_Spos hd hB
  have k123 := du_123 (post := post) (mc := mc) (ms := ms) (t := l % 11) (Q := j % 7) hmc hms hp hP1 hP (by omega) hA hB0 hB (by omega) hc hd
  have k115 : wL_lawOf_115 post mc ms (nI P) c d (nI (j % 7)) (nI (l % 11) - 5) (lN A) (lN B) zd zc 0 0 := by
    unfold wL_lawOf_115
    by_cases e : zc = zd
    · rw [if_pos e] at k123
      exact br_t e k123
    · rw [if_neg e] at k123
      exact br_f e k123
  have k105 : wL_lawOf_105 post mc ms (nI P) c d (nI (j % 7)) (nI (l % 11) - 5) (lN A) (lN B) zc 0 0 := by
    unfold wL_lawOf_105
    rcases du_Sz hd with e | e
    · rw [e] at k115
      exact br_t (hsd.mpr e) k115
    · rw [e] at k115
      exact br_f (fun w => absurd ((hsd.mp w).symm.trans e) (by decide)) k115
  have k93 : wL_lawOf_93 post mc ms (nI P) c d (nI (j % 7)) (nI (l % 11) - 5) (lN A) (lN B) 0 0 := by
    unfold wL_lawOf_93
    rcases du_Sz hc with e | e
    · rw [e] at k105
      exact br_t (hsc.mpr e) k105
    · rw [e] at k105
      exact br_f (fun w => absurd ((hsc.mp w).symm.trans e) (by decide)) k105
  have k76 : wL_lawOf_76 post mc ms (nI P) c d (nI (j % 7)) (nI (l % 11) - 5) (lN A) 0 0 := by
    unfold wL_lawOf_76
    exact du_abs (X := fun y => wL_lawOf_93 post mc ms (nI P) c d (nI (j % 7)) (nI (l % 11) - 5) (lN A) y 0 0) hd hB k93
  exact du_abs (X := fun y => wL_lawOf_76 post mc ms (nI P) c d (nI (j % 7)) (nI (l % 11) - 5) y 0 0) hc hA k76
theorem du_lawOf {p0 p1 p2 p3 p4 : Int32} (hmc : 4 ≤ mc) (hms : 41 ≤ ms) (hp : post 1 ()) : wpL_lawOf post mc ms () p0 p1 p2 p3 p4 := by
  obtain ⟨j, hj, ej⟩ := pk_andE p2 (m := 255) 8 (by decide)
  have hj' : j < 256 := hj
  obtain ⟨zc, A, hA, hc⟩ := du_rem p0
  obtain ⟨zd, B, hB, hd⟩ := du_rem p1
  unfold wpL_lawOf
  rw [ej]
  refine ⟨by decide, nm_r ((congrArg (3 + ·) (pk_rem (a := j) (d := 5) (by omega) (by decide) (by decide))).trans (nI_add 3 (j % 5))) ⟨by decide, nm_e ⟨by decide, br_c (fun _ => ?_) (fun e => ⟨by decide, ?_⟩)⟩⟩⟩
  · exact du_36 (zd := 0) (B := 7) hmc hms hp (by omega) (by omega) hA (by omega) (by omega) hc (Or.inl ⟨rfl, rfl⟩)
  · refine du_36 hmc hms hp (by omega) (by omega) hA ?_ hB hc hd
    rcases hd with ⟨_, hd⟩ | ⟨_, hd, _⟩
    · rcases Nat.eq_zero_or_pos B with q | q
      · rw [q] at hd
        exact absurd hd e
      · exact q
    · exact hd
end
theorem du_cell {post : Int32 → Prop} {L : Nat} {xs : Nat → Int32} {x : Int32} (i : Nat) (hi : i < 5) (hL : L ≤ 5) (h : ∀ v, post v) (hx : x = nI i := by rfl) : wpL_cellAt post L xs () x := by
  unfold wpL_cellAt
  exact pk_le L i (fun _ => h _) (fun z => ⟨pk_in i L z hx, h _⟩) rfl hx
theorem i_vc (xs : Nat → Int32) (L : Nat) (hL : L ≤ 5) : wpL_law (fun r => r = 1) L xs := by
  unfold wpL_law
  refine du_cell 0 (by omega) hL (fun r1 => ?_)
  refine du_cell 1 (by omega) hL (fun r2 => ?_)
  refine du_cell 2 (by omega) hL (fun r3 => ?_)
  refine du_cell 3 (by omega) hL (fun r4 => ?_)
  refine du_cell 4 (by omega) hL (fun r5 => ?_)
  exact ⟨36, 576, by omega, by omega, du_lawOf (by omega) (by omega) rfl⟩
end
