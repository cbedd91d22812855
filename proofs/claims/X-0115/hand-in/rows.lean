section
theorem pk_us {f : Nat → Int32} {k : Nat} {x : Int32} : upd f k x k = x := if_pos rfl
theorem pk_un {f : Nat → Int32} {k j : Nat} {x : Int32} (h : j ≠ k) : upd f k x j = f j := if_neg h
theorem pk_sub {a b : Nat} (h : b ≤ a) : nI a - nI b = nI (a - b) := by
  obtain ⟨c, rfl⟩ : ∃ c, a = c + b := ⟨a - b, by omega⟩
  rw [← nI_add, Int32.add_sub_cancel, Nat.add_sub_cancel]
theorem pk_m1 (n : Nat) : nI (n + 1) + (-1) = nI n := by
  rw [← nI_1, Int32.add_assoc, show (1 : Int32) + (-1) = 0 from rfl, Int32.add_zero]
theorem pk_mul (a b : Nat) : nI a * nI b = nI (a * b) := (Int32.ofNat_mul a b).symm
theorem pk_div {a d : Nat} (ha : a < 2 ^ 31) (h0 : 0 < d) (hd : d < 2 ^ 31) : nI a / nI d = nI (a / d) := by
  apply Int32.toInt_inj.mp
  rw [lg_idiv_nonneg (by rw [nI_toInt ha]; omega) (by rw [nI_toInt hd]; omega), nI_toInt ha, nI_toInt hd, nI_toInt (Nat.lt_of_le_of_lt (Nat.div_le_self a d) ha)]
  first | rfl | exact (Int.natCast_ediv _ _).symm
theorem pk_rem {a d : Nat} (ha : a < 2 ^ 31) (h0 : 0 < d) (hd : d < 2 ^ 31) : nI a - nI a / nI d * nI d = nI (a % d) := by
  rw [pk_div ha h0 hd, pk_mul, pk_sub (Nat.div_mul_le_self a d)]
  exact congrArg nI (by have := Nat.div_add_mod' a d; omega)
theorem pk_sub_toInt {a b : Nat} (ha : a < 2 ^ 30) (hb : b < 2 ^ 30) : (nI a - nI b).toInt = (a : Int) - b := by
  rw [Int32.toInt_sub, nI_toInt (by omega), nI_toInt (by omega)]
  exact Int.bmod_eq_of_le (by omega) (by omega)
theorem pk_sneg {a b : Nat} (hb : b < 2 ^ 30) (h : a < b) : nI a - nI b < 0 := by
  rw [Int32.lt_iff_toInt_lt, pk_sub_toInt (by omega) hb, show (0 : Int32).toInt = 0 from by decide]
  omega
theorem pk_ix (x : Int32) {n : Nat} (hn : n < 2 ^ 31) : x < 0 ∨ nI n ≤ x ∨ ∃ j : Nat, j < n ∧ x = nI j := by
  by_cases h : x < 0
  · exact Or.inl h
  · obtain ⟨j, hj, rfl⟩ := nI_of h
    by_cases h2 : j < n
    · exact Or.inr (Or.inr ⟨j, h2, rfl⟩)
    · exact Or.inr (Or.inl (nI_le (by omega) hj))
theorem pk_le {x y : Int32} {A B : Prop} (a b : Nat) (f : a ≤ b → A) (g : b < a → B) (hx : x = nI a := by rfl) (hy : y = nI b := by rfl) (ha : a < 2 ^ 31 := by omega) (hb : b < 2 ^ 31 := by omega) : (x ≤ y → A) ∧ (¬ x ≤ y → B) := by
  subst hx hy
  rw [nI_leI ha hb]
  exact ⟨f, fun z => g (by omega)⟩
theorem pk_lt {x y : Int32} {A B : Prop} (a b : Nat) (f : a < b → A) (g : b ≤ a → B) (hx : x = nI a := by rfl) (hy : y = nI b := by rfl) (ha : a < 2 ^ 31 := by omega) (hb : b < 2 ^ 31 := by omega) : (x < y → A) ∧ (¬ x < y → B) := by
  subst hx hy
  rw [nI_ltI ha hb]
  exact ⟨f, fun z => g (by omega)⟩
theorem pk_eq {x y : Int32} {A B : Prop} (a b : Nat) (f : a = b → A) (g : a ≠ b → B) (hx : x = nI a := by rfl) (hy : y = nI b := by rfl) (ha : a < 2 ^ 31 := by omega) (hb : b < 2 ^ 31 := by omega) : (x = y → A) ∧ (¬ x = y → B) := by
  subst hx hy
  rw [nI_eq ha hb]
  exact ⟨f, g⟩
theorem pk_in {x : Int32} (n N : Nat) (h : n < N) (hx : x = nI n := by rfl) (hN : N < 2 ^ 31 := by omega) : vp_in x N := by
  subst hx
  exact vp_in_nI h hN
theorem pk_cl {x : Int32} (n : Nat) (hx : x = nI n := by rfl) (h : n < 2 ^ 31 := by omega) : x.toNatClampNeg = n := by
  subst hx
  exact nI_clamp h
theorem pk_lT {n : Nat} (h : n < 2 ^ 63) : (lN n).toInt = (n : Int) := lg_ofNat_toInt h
theorem pk_lLT {a b : Nat} (ha : a < 2 ^ 63) (hb : b < 2 ^ 63) : lN a < lN b ↔ a < b := by
  rw [Int64.lt_iff_toInt_lt, pk_lT ha, pk_lT hb]; omega
theorem pk_lLE {a b : Nat} (ha : a < 2 ^ 63) (hb : b < 2 ^ 63) : lN a ≤ lN b ↔ a ≤ b := by
  rw [Int64.le_iff_toInt_le, pk_lT ha, pk_lT hb]; omega
theorem pk_lEQ {a b : Nat} (ha : a < 2 ^ 63) (hb : b < 2 ^ 63) : lN a = lN b ↔ a = b := by
  rw [← Int64.toInt_inj, pk_lT ha, pk_lT hb]; omega
theorem pk_lOf {x : Int64} (h : ¬ x < 0) : ∃ k : Nat, k < 2 ^ 63 ∧ x = lN k := by
  rw [Int64.lt_iff_toInt_lt] at h
  have h0 : (0 : Int64).toInt = 0 := by decide
  have hx := Int64.toInt_lt x
  refine ⟨x.toInt.toNat, by omega, Int64.toInt_inj.mp ?_⟩
  rw [pk_lT (by omega)]
  omega
theorem pk_lDiv {a b : Nat} (ha : a < 2 ^ 63) (h0 : 0 < b) (hb : b < 2 ^ 63) : lN a / lN b = lN (a / b) := by
  apply Int64.toInt_inj.mp
  rw [lg_ldiv_nonneg (by rw [pk_lT ha]; omega) (by rw [pk_lT hb]; omega), pk_lT ha, pk_lT hb, pk_lT (Nat.lt_of_le_of_lt (Nat.div_le_self a b) ha)]
  rfl
theorem pk_lRem {a b : Nat} (ha : a < 2 ^ 63) (h0 : 0 < b) (hb : b < 2 ^ 63) : lN a - lN a / lN b * lN b = lN (a % b) := by
  rw [pk_lDiv ha h0 hb, lN_mul, lN_sub (Nat.div_mul_le_self a b)]
  exact congrArg lN (by have := Nat.div_add_mod' a b; omega)
theorem pk_least (P : Nat → Prop) (h : ∃ k, P k) : ∃ k, P k ∧ ∀ j, j < k → ¬ P j := by
  obtain ⟨k, hk⟩ := h
  induction k using Nat.strongRecOn with
  | ind k ih =>
    by_cases e : ∃ j, j < k ∧ P j
    · obtain ⟨j, hj, pj⟩ := e
      exact ih j hj pj
    · exact ⟨k, hk, fun j hj pj => e ⟨j, hj, pj⟩⟩
theorem ek_if {c d A B : Prop} (e : c ↔ d) (f : d → A) (g : ¬ d → B) : (c → A) ∧ (¬ c → B) :=
  ⟨fun z => f (e.mp z), fun z => g (fun y => z (e.mpr y))⟩
theorem ek_v {α : Sort _} {P : α → Prop} {a b : α} (e : a = b) (h : P b) : P a := e ▸ h
theorem sb_negT {w : Nat} (h : w < 2 ^ 31) : (-nI w).toInt = -(w : Int) := by
  rw [Int32.toInt_neg, nI_toInt h]
  exact Int.bmod_eq_of_le (by omega) (by omega)
end
section
/-! the places of sun and moon in plain integers: sine, correction, means; monotone, and near a straight row -/
def ns_s (i : Nat) : Nat := [0, 225, 449, 671, 890, 1105, 1315, 1520, 1719, 1910, 2093, 2267, 2431, 2585, 2728, 2859, 2978, 3084, 3177, 3256, 3321, 3372, 3409, 3431, 3438].getD i 0
def ns_S (h : Nat) : Nat := if h / 13500 < 24 then 60 * ns_s (h / 13500) + (ns_s (h / 13500 + 1) - ns_s (h / 13500)) * (h % 13500) / 225 else 206280
def ns_R (a : Nat) : Nat := ns_S (if a % 648000 ≤ 324000 then a % 648000 else 648000 - a % 648000)
def ns_g (x : Nat) : Nat := if x ≤ 13500 then x else 13500 + (x - 13500) * 225 / 224
def ns_x (e a : Nat) : Nat := ns_g (ns_R a * e / 360)
def ns_c (e a : Nat) : Int := if a < 648000 then (ns_x e a : Int) else -(ns_x e a : Int)
def ns_ms (t : Nat) : Nat := 23328000000 * t / 394479457
def ns_mm (t : Nat) : Nat := 311868014400 * t / 394479457
def ns_ma (t : Nat) : Nat := 309231718200 * t / 394479457
/-- a value sealed: it is not unfolded by reduction -/
noncomputable def ns_sl {α : Type} (a : α) : α := Classical.choose (⟨a, rfl⟩ : ∃ x : α, x = a)
theorem ns_sle {α : Type} (a : α) : ns_sl a = a := Classical.choose_spec (⟨a, rfl⟩ : ∃ x : α, x = a)
noncomputable def ns_sun (e t : Nat) : Int := ns_sl ((ns_ms t : Int) - ns_c e ((ns_ms t + 1017780) % 1296000))
noncomputable def ns_moon (e t : Nat) : Int := ns_sl ((ns_mm t : Int) - ns_c e ((ns_ma t + 972000) % 1296000))
theorem ns_sund (e t : Nat) : ns_sun e t = (ns_ms t : Int) - ns_c e ((ns_ms t + 1017780) % 1296000) := ns_sle _
theorem ns_moond (e t : Nat) : ns_moon e t = (ns_mm t : Int) - ns_c e ((ns_ma t + 972000) % 1296000) := ns_sle _
noncomputable def ns_E (e1 e2 t : Nat) : Int := ns_moon e2 t - ns_sun e1 t

theorem ns_tab : ∀ i, i < 24 → ns_s i ≤ ns_s (i + 1) ∧ ns_s (i + 1) ≤ ns_s i + 225 := by decide
theorem ns_tab2 : ∀ i, i < 25 → ns_s i ≤ 3438 := by decide
theorem ns_h1 (d p : Nat) (h : d ≤ 225) : p / 225 ≤ (p + d) / 225 ∧ (p + d) / 225 ≤ p / 225 + 1 := by omega
theorem ns_h2 (a b : Nat) (h : a ≤ b) (h2 : b ≤ a + 225) : 60 * a + (b - a) * 13499 / 225 ≤ 60 * b ∧ 60 * b ≤ 60 * a + (b - a) * 13499 / 225 + 1 := by omega
theorem ns_step {h : Nat} (hh : h < 324000) : ns_S h ≤ ns_S (h + 1) ∧ ns_S (h + 1) ≤ ns_S h + 1 := by
  obtain ⟨i, f, hi, hf, rfl⟩ : ∃ i f, i < 24 ∧ f < 13500 ∧ h = 13500 * i + f := ⟨h / 13500, h % 13500, by omega, by omega, by omega⟩
  have t := ns_tab i hi
  have e1 : (13500 * i + f) / 13500 = i := by omega
  have e2 : (13500 * i + f) % 13500 = f := by omega
  have A : ns_S (13500 * i + f) = 60 * ns_s i + (ns_s (i + 1) - ns_s i) * f / 225 := by
    unfold ns_S
    rw [e1, e2, if_pos hi]
  by_cases hf1 : f + 1 < 13500
  · have e3 : (13500 * i + f + 1) / 13500 = i := by omega
    have e4 : (13500 * i + f + 1) % 13500 = f + 1 := by omega
    have B : ns_S (13500 * i + f + 1) = 60 * ns_s i + ((ns_s (i + 1) - ns_s i) * f + (ns_s (i + 1) - ns_s i)) / 225 := by
      unfold ns_S
      rw [e3, e4, if_pos hi, Nat.mul_add, Nat.mul_one]
    have q := ns_h1 (ns_s (i + 1) - ns_s i) ((ns_s (i + 1) - ns_s i) * f) (by omega)
    rw [A, B]
    exact ⟨Nat.add_le_add_left q.1 _, by rw [Nat.add_assoc]; exact Nat.add_le_add_left q.2 _⟩
  · have ef : f = 13499 := by omega
    subst ef
    have B : ns_S (13500 * i + 13499 + 1) = 60 * ns_s (i + 1) := by
      have e3 : (13500 * i + 13499 + 1) / 13500 = i + 1 := by omega
      have e4 : (13500 * i + 13499 + 1) % 13500 = 0 := by omega
      unfold ns_S
      rw [e3, e4]
      by_cases h4 : i + 1 < 24
      · rw [if_pos h4, Nat.mul_zero, Nat.zero_div, Nat.add_zero]
      · have e5 : i = 23 := by omega
        subst e5
        rw [if_neg h4]
        decide
    rw [A, B]
    exact ns_h2 _ _ t.1 t.2
theorem ns_lip : ∀ (n h : Nat), h + n ≤ 324000 → ns_S h ≤ ns_S (h + n) ∧ ns_S (h + n) ≤ ns_S h + n := by
  intro n
  induction n with
  | zero => intro h _; exact ⟨Nat.le_refl _, Nat.le_refl _⟩
  | succ n ih =>
    intro h hh
    have a := ih h (by omega)
    have b := ns_step (h := h + n) (by omega)
    rw [← Nat.add_assoc]
    omega
theorem ns_S0 : ns_S 0 = 0 := by decide
theorem ns_St : ns_S 324000 = 206280 := by decide
theorem ns_Sle {h : Nat} (hh : h ≤ 324000) : ns_S h ≤ 206280 := by
  have a := (ns_lip (324000 - h) h (by omega)).1
  rw [show h + (324000 - h) = 324000 by omega, ns_St] at a
  exact a
theorem ns_Rle (a : Nat) : ns_R a ≤ 206280 := by
  unfold ns_R
  by_cases h : a % 648000 ≤ 324000
  · rw [if_pos h]; exact ns_Sle h
  · rw [if_neg h]; exact ns_Sle (by omega)

/-! the signed sine -/
def ns_q (a : Nat) : Int := if a < 648000 then (ns_R a : Int) else -(ns_R a : Int)
theorem ns_q1 {a : Nat} (h : a ≤ 324000) : ns_q a = (ns_S a : Int) := by
  unfold ns_q ns_R
  rw [if_pos (show a < 648000 by omega), show a % 648000 = a by omega, if_pos h]
theorem ns_q2 {a : Nat} (h1 : 324000 ≤ a) (h : a ≤ 648000) : ns_q a = (ns_S (648000 - a) : Int) := by
  by_cases e0 : a = 324000
  · subst e0; exact ns_q1 (by omega)
  by_cases e1 : a = 648000
  · subst e1; decide
  unfold ns_q ns_R
  rw [if_pos (show a < 648000 by omega), show a % 648000 = a by omega, if_neg (show ¬ a ≤ 324000 by omega)]
theorem ns_q3 {a : Nat} (h1 : 648000 ≤ a) (h : a ≤ 972000) : ns_q a = -(ns_S (a - 648000) : Int) := by
  unfold ns_q ns_R
  rw [if_neg (show ¬ a < 648000 by omega), show a % 648000 = a - 648000 by omega, if_pos (show a - 648000 ≤ 324000 by omega)]
theorem ns_q4 {a : Nat} (h1 : 972000 ≤ a) (h : a < 1296000) : ns_q a = -(ns_S (1296000 - a) : Int) := by
  by_cases e0 : a = 972000
  · subst e0; exact ns_q3 (by omega) (by omega)
  unfold ns_q ns_R
  rw [if_neg (show ¬ a < 648000 by omega), show a % 648000 = a - 648000 by omega, if_neg (show ¬ a - 648000 ≤ 324000 by omega), show 648000 - (a - 648000) = 1296000 - a by omega]
theorem ns_qstep {a : Nat} (h : a < 1296000) : ns_q ((a + 1) % 1296000) ≤ ns_q a + 1 ∧ ns_q a ≤ ns_q ((a + 1) % 1296000) + 1 := by
  by_cases h1 : a < 324000
  · rw [show (a + 1) % 1296000 = a + 1 by omega, ns_q1 (a := a) (by omega), ns_q1 (a := a + 1) (by omega)]
    have := ns_step h1
    omega
  by_cases h2 : a < 648000
  · rw [show (a + 1) % 1296000 = a + 1 by omega, ns_q2 (a := a) (by omega) (by omega), ns_q2 (a := a + 1) (by omega) (by omega)]
    have := ns_step (h := 648000 - (a + 1)) (by omega)
    rw [show 648000 - (a + 1) + 1 = 648000 - a by omega] at this
    omega
  by_cases h3 : a < 972000
  · rw [show (a + 1) % 1296000 = a + 1 by omega, ns_q3 (a := a) (by omega) (by omega), ns_q3 (a := a + 1) (by omega) (by omega)]
    have := ns_step (h := a - 648000) (by omega)
    rw [show a - 648000 + 1 = a + 1 - 648000 by omega] at this
    omega
  by_cases h4 : a < 1295999
  · rw [show (a + 1) % 1296000 = a + 1 by omega, ns_q4 (a := a) (by omega) (by omega), ns_q4 (a := a + 1) (by omega) (by omega)]
    have := ns_step (h := 1296000 - (a + 1)) (by omega)
    rw [show 1296000 - (a + 1) + 1 = 1296000 - a by omega] at this
    omega
  · have e : a = 1295999 := by omega
    subst e
    decide
theorem ns_qlip (a : Nat) : ∀ n : Nat, ns_q ((a + n) % 1296000) ≤ ns_q (a % 1296000) + n ∧ ns_q (a % 1296000) ≤ ns_q ((a + n) % 1296000) + n := by
  intro n
  induction n with
  | zero => exact ⟨by rw [Nat.add_zero]; omega, by rw [Nat.add_zero]; omega⟩
  | succ n ih =>
    have b := ns_qstep (a := (a + n) % 1296000) (by omega)
    rw [show ((a + n) % 1296000 + 1) % 1296000 = (a + (n + 1)) % 1296000 by omega] at b
    omega
theorem ns_qb (a : Nat) : ns_q a ≤ 206280 ∧ -206280 ≤ ns_q a := by
  have := ns_Rle a
  unfold ns_q
  by_cases h : a < 648000
  · rw [if_pos h]; omega
  · rw [if_neg h]; omega

/-! the correction as an odd function of (signed sine) * epicycle -/
def ns_gi (x : Int) : Int := if x ≤ 13500 then x else 13500 + (x - 13500) * 225 / 224
def ns_gg (w : Int) : Int := if 0 ≤ w then ns_gi (w / 360) else -ns_gi ((-w) / 360)
theorem ns_gc (x : Nat) : (ns_g x : Int) = ns_gi (x : Int) := by
  unfold ns_g ns_gi
  by_cases h : x ≤ 13500
  · rw [if_pos h, if_pos (by omega)]
  · rw [if_neg h, if_neg (by omega)]
    omega
theorem ns_cgg (e a : Nat) : ns_c e a = ns_gg (ns_q a * (e : Int)) := by
  have hx : (ns_x e a : Int) = ns_gi ((ns_R a : Int) * (e : Int) / 360) := by
    unfold ns_x
    rw [ns_gc]
    rfl
  have hp : 0 ≤ (ns_R a : Int) * (e : Int) := Int.mul_nonneg (by omega) (by omega)
  unfold ns_c ns_q ns_gg
  by_cases h : a < 648000
  · rw [if_pos h, if_pos h, if_pos hp, hx]
  · rw [if_neg h, if_neg h, hx, Int.neg_mul, Int.neg_neg]
    by_cases h0 : (ns_R a : Int) * (e : Int) = 0
    · rw [h0]; decide
    · rw [if_neg (by omega)]
theorem ns_gim {x y : Int} (h0 : 0 ≤ x) (h : x ≤ y) : ns_gi x ≤ ns_gi y ∧ ns_gi y ≤ ns_gi x + 2 * (y - x) := by
  unfold ns_gi
  by_cases h1 : x ≤ 13500
  · by_cases h2 : y ≤ 13500
    · rw [if_pos h1, if_pos h2]; omega
    · rw [if_pos h1, if_neg h2]; omega
  · rw [if_neg h1, if_neg (by omega : ¬ y ≤ 13500)]; omega
theorem ns_gi0 {x : Int} (h0 : 0 ≤ x) : 0 ≤ ns_gi x ∧ ns_gi x ≤ 2 * x := by
  have := ns_gim (x := 0) (y := x) (by omega) h0
  have z : ns_gi 0 = 0 := by decide
  omega
theorem ns_ggm {w v : Int} (h : w ≤ v) : ns_gg w ≤ ns_gg v ∧ ns_gg v ≤ ns_gg w + 2 * ((v - w) / 360 + 1) := by
  unfold ns_gg
  by_cases h1 : 0 ≤ w
  · rw [if_pos h1, if_pos (by omega : 0 ≤ v)]
    have := ns_gim (x := w / 360) (y := v / 360) (by omega) (by omega)
    omega
  · by_cases h2 : 0 ≤ v
    · rw [if_neg h1, if_pos h2]
      have a := ns_gi0 (x := v / 360) (by omega)
      have b := ns_gi0 (x := (-w) / 360) (by omega)
      omega
    · rw [if_neg h1, if_neg h2]
      have := ns_gim (x := (-v) / 360) (y := (-w) / 360) (by omega) (by omega)
      omega
theorem ns_ggb {w B M : Int} (hB : 0 ≤ B) (h1 : w ≤ B) (h2 : -B ≤ w) (hM : ns_gi (B / 360) ≤ M) : ns_gg w ≤ M ∧ -M ≤ ns_gg w := by
  unfold ns_gg
  by_cases h : 0 ≤ w
  · rw [if_pos h]
    have a := ns_gi0 (x := w / 360) (by omega)
    have b := ns_gim (x := w / 360) (y := B / 360) (by omega) (by omega)
    omega
  · rw [if_neg h]
    have a := ns_gi0 (x := (-w) / 360) (by omega)
    have b := ns_gim (x := (-w) / 360) (y := B / 360) (by omega) (by omega)
    omega
theorem ns_mulb {x d : Int} {e E : Nat} (h1 : -d ≤ x) (h2 : x ≤ d) (he : e ≤ E) : x * (e : Int) ≤ d * (E : Int) ∧ -(d * (E : Int)) ≤ x * (e : Int) := by
  have a1 := Int.mul_nonneg (show 0 ≤ d - x by omega) (show (0 : Int) ≤ (e : Int) by omega)
  have a2 := Int.mul_nonneg (show 0 ≤ d + x by omega) (show (0 : Int) ≤ (e : Int) by omega)
  have a3 := Int.mul_nonneg (show 0 ≤ d by omega) (show (0 : Int) ≤ (E : Int) - (e : Int) by omega)
  rw [Int.sub_mul] at a1
  rw [Int.add_mul] at a2
  rw [Int.mul_sub] at a3
  constructor <;> omega
/-- a step of the anomaly by n changes the correction by at most 2 (n E / 360 + 1) -/
theorem ns_cstep {e E : Nat} (he : e ≤ E) (a n : Nat) : ns_c e ((a + n) % 1296000) ≤ ns_c e (a % 1296000) + 2 * ((n : Int) * (E : Int) / 360 + 1) ∧ ns_c e (a % 1296000) ≤ ns_c e ((a + n) % 1296000) + 2 * ((n : Int) * (E : Int) / 360 + 1) := by
  rw [ns_cgg, ns_cgg]
  have q := ns_qlip a n
  have m := ns_mulb (x := ns_q ((a + n) % 1296000) - ns_q (a % 1296000)) (d := (n : Int)) (by omega) (by omega) he
  rw [Int.sub_mul] at m
  generalize ns_q ((a + n) % 1296000) * (e : Int) = v at *
  generalize ns_q (a % 1296000) * (e : Int) = w at *
  generalize (n : Int) * (E : Int) = b at *
  by_cases h : w ≤ v
  · have g := ns_ggm h
    omega
  · have g := ns_ggm (w := v) (v := w) (by omega)
    omega
theorem ns_cb1 {e : Nat} (he : e ≤ 28) (a : Nat) : ns_c e a ≤ 16055 ∧ -16055 ≤ ns_c e a := by
  rw [ns_cgg]
  have q := ns_qb a
  have m := ns_mulb (x := ns_q a) (d := 206280) (by omega) (by omega) he
  exact ns_ggb (B := 5775840) (by decide) (by omega) (by omega) (by decide)
theorem ns_cb2 {e : Nat} (he : e ≤ 36) (a : Nat) : ns_c e a ≤ 20659 ∧ -20659 ≤ ns_c e a := by
  rw [ns_cgg]
  have q := ns_qb a
  have m := ns_mulb (x := ns_q a) (d := 206280) (by omega) (by omega) he
  exact ns_ggb (B := 7426080) (by decide) (by omega) (by omega) (by decide)

/-! means -/
theorem ns_mss (t : Nat) : ns_ms t + 59 ≤ ns_ms (t + 1) ∧ ns_ms (t + 1) ≤ ns_ms t + 60 := by
  unfold ns_ms; omega
theorem ns_mms (t : Nat) : ns_mm t + 790 ≤ ns_mm (t + 1) ∧ ns_mm (t + 1) ≤ ns_mm t + 791 := by
  unfold ns_mm; omega
theorem ns_mas (t : Nat) : ns_ma t + 783 ≤ ns_ma (t + 1) ∧ ns_ma (t + 1) ≤ ns_ma t + 784 := by
  unfold ns_ma; omega
theorem ns_suns {e : Nat} (he : e ≤ 28) (t : Nat) : ns_sun e t ≤ ns_sun e (t + 1) ∧ ns_sun e (t + 1) ≤ ns_sun e t + 80 := by
  simp only [ns_sund]
  have m := ns_mss t
  obtain ⟨n, hn⟩ : ∃ n, ns_ms (t + 1) = ns_ms t + n := ⟨ns_ms (t + 1) - ns_ms t, by omega⟩
  rw [hn] at m
  rw [hn, show ns_ms t + n + 1017780 = ns_ms t + 1017780 + n by omega]
  have c := ns_cstep he (ns_ms t + 1017780) n
  generalize ns_c e ((ns_ms t + 1017780 + n) % 1296000) = c1 at *
  generalize ns_c e ((ns_ms t + 1017780) % 1296000) = c0 at *
  omega
theorem ns_moons {e : Nat} (he : e ≤ 36) (t : Nat) : ns_moon e t + 600 ≤ ns_moon e (t + 1) := by
  simp only [ns_moond]
  have m := ns_mas t
  have m2 := ns_mms t
  obtain ⟨n, hn⟩ : ∃ n, ns_ma (t + 1) = ns_ma t + n := ⟨ns_ma (t + 1) - ns_ma t, by omega⟩
  rw [hn] at m
  rw [hn, show ns_ma t + n + 972000 = ns_ma t + 972000 + n by omega]
  have c := ns_cstep he (ns_ma t + 972000) n
  generalize ns_c e ((ns_ma t + 972000 + n) % 1296000) = c1 at *
  generalize ns_c e ((ns_ma t + 972000) % 1296000) = c0 at *
  omega
theorem ns_sunm {e : Nat} (he : e ≤ 28) {t u : Nat} (h : t ≤ u) : ns_sun e t ≤ ns_sun e u := by
  obtain ⟨n, rfl⟩ : ∃ n, u = t + n := ⟨u - t, by omega⟩
  clear h
  induction n with
  | zero => exact Int.le_refl _
  | succ n ih => exact Int.le_trans ih (ns_suns he (t + n)).1
theorem ns_Em {e1 e2 : Nat} (h1 : e1 ≤ 28) (h2 : e2 ≤ 36) {t u : Nat} (h : t ≤ u) : ns_E e1 e2 t ≤ ns_E e1 e2 u := by
  obtain ⟨n, rfl⟩ : ∃ n, u = t + n := ⟨u - t, by omega⟩
  clear h
  induction n with
  | zero => exact Int.le_refl _
  | succ n ih =>
    refine Int.le_trans ih ?_
    unfold ns_E
    have a := ns_suns h1 (t + n)
    have b := ns_moons h2 (t + n)
    rw [← Nat.add_assoc]
    omega
theorem ns_sunb {e : Nat} (he : e ≤ 28) (t : Nat) : 394479457 * ns_sun e t ≤ 23328000000 * (t : Int) + 394479457 * 16056 ∧ 23328000000 * (t : Int) ≤ 394479457 * ns_sun e t + 394479457 * 16056 := by
  simp only [ns_sund]
  have c := ns_cb1 he ((ns_ms t + 1017780) % 1296000)
  generalize ns_c e ((ns_ms t + 1017780) % 1296000) = c0 at *
  have m : 394479457 * ns_ms t ≤ 23328000000 * t ∧ 23328000000 * t < 394479457 * ns_ms t + 394479457 := by unfold ns_ms; omega
  omega
theorem ns_Eb {e1 e2 : Nat} (h1 : e1 ≤ 28) (h2 : e2 ≤ 36) (t : Nat) : 394479457 * ns_E e1 e2 t ≤ 288540014400 * (t : Int) + 394479457 * 36715 ∧ 288540014400 * (t : Int) ≤ 394479457 * ns_E e1 e2 t + 394479457 * 36715 := by
  unfold ns_E
  rw [ns_sund, ns_moond]
  have c := ns_cb1 h1 ((ns_ms t + 1017780) % 1296000)
  generalize ns_c e1 ((ns_ms t + 1017780) % 1296000) = c0 at *
  have d := ns_cb2 h2 ((ns_ma t + 972000) % 1296000)
  generalize ns_c e2 ((ns_ma t + 972000) % 1296000) = c1 at *
  have m : 394479457 * ns_ms t ≤ 23328000000 * t ∧ 23328000000 * t < 394479457 * ns_ms t + 394479457 := by unfold ns_ms; omega
  have n : 394479457 * ns_mm t ≤ 311868014400 * t ∧ 311868014400 * t < 394479457 * ns_mm t + 394479457 := by unfold ns_mm; omega
  omega
end
section
/-! crossings, opening days, lunations, signs: the calendar over the elongation, in plain integers -/
def cl_ok (e1 e2 : Nat) : Prop := e1 ≤ 28 ∧ e2 ≤ 36
theorem cl_hi {e1 e2 : Nat} (H : cl_ok e1 e2) {L G : Nat} (hG : 394479457 * L < 6679167 * G + 6679167) : 43200 * (L : Int) ≤ ns_E e1 e2 (G + 64) := by
  have b := (ns_Eb H.1 H.2 (G + 64)).2
  generalize ns_E e1 e2 (G + 64) = E at *
  omega
theorem cl_lo {e1 e2 : Nat} (H : cl_ok e1 e2) {L G t : Nat} (hG : 6679167 * G ≤ 394479457 * L) (ht : t + 64 ≤ G) : ns_E e1 e2 t < 43200 * (L : Int) := by
  have b := (ns_Eb H.1 H.2 t).1
  generalize ns_E e1 e2 t = E at *
  omega
theorem cl_ex {e1 e2 : Nat} (H : cl_ok e1 e2) (L : Nat) : ∃ c : Nat, ∀ t : Nat, c ≤ t ↔ 43200 * (L : Int) ≤ ns_E e1 e2 t := by
  obtain ⟨c, hc, hl⟩ := pk_least (fun t => 43200 * (L : Int) ≤ ns_E e1 e2 t) ⟨394479457 * L / 6679167 + 64, cl_hi H (by omega)⟩
  refine ⟨c, fun t => ⟨fun h => Int.le_trans hc (ns_Em H.1 H.2 h), fun h => ?_⟩⟩
  by_cases h2 : c ≤ t
  · exact h2
  · exact absurd h (hl t (by omega))
noncomputable def cl_C (e1 e2 L : Nat) : Nat := Classical.epsilon (fun c : Nat => ∀ t : Nat, c ≤ t ↔ 43200 * (L : Int) ≤ ns_E e1 e2 t)
theorem cl_gc {e1 e2 : Nat} (H : cl_ok e1 e2) (L t : Nat) : cl_C e1 e2 L ≤ t ↔ 43200 * (L : Int) ≤ ns_E e1 e2 t := Classical.epsilon_spec (cl_ex H L) t
theorem cl_b {e1 e2 : Nat} (H : cl_ok e1 e2) {L G : Nat} (h1 : 6679167 * G ≤ 394479457 * L) (h2 : 394479457 * L < 6679167 * G + 6679167) (hG : 64 ≤ G) : G - 64 < cl_C e1 e2 L ∧ cl_C e1 e2 L ≤ G + 64 := by
  refine ⟨?_, (cl_gc H L (G + 64)).mpr (cl_hi H h2)⟩
  have b := cl_lo H (t := G - 64) h1 (by omega)
  by_cases c : cl_C e1 e2 L ≤ G - 64
  · have := (cl_gc H L (G - 64)).mp c
    omega
  · omega
theorem cl_lin {e1 e2 : Nat} (H : cl_ok e1 e2) {L : Nat} (hL : 2 ≤ L) : 6679167 * cl_C e1 e2 L ≤ 394479457 * L + 427466688 ∧ 394479457 * L ≤ 6679167 * cl_C e1 e2 L + 434145855 := by
  have b := cl_b H (L := L) (G := 394479457 * L / 6679167) (by omega) (by omega) (by omega)
  generalize cl_C e1 e2 L = c at *
  omega
theorem cl_Cm {e1 e2 : Nat} (H : cl_ok e1 e2) {L M : Nat} (h : L ≤ M) : cl_C e1 e2 L ≤ cl_C e1 e2 M := by
  refine (cl_gc H L _).mpr ?_
  have := (cl_gc H M (cl_C e1 e2 M)).mp (Nat.le_refl _)
  omega
theorem cl_E0 {e1 e2 : Nat} (H : cl_ok e1 e2) {t : Nat} (ht : 1000 ≤ t) : 0 ≤ ns_E e1 e2 t := by
  have b := (ns_Eb H.1 H.2 t).2
  generalize ns_E e1 e2 t = E at *
  omega
noncomputable def cl_T (e1 e2 d : Nat) : Nat := (ns_E e1 e2 (60 * d)).toNat / 43200
noncomputable def cl_O (e1 e2 L : Nat) : Nat := (cl_C e1 e2 L + 59) / 60
theorem cl_TC {e1 e2 : Nat} (H : cl_ok e1 e2) {d : Nat} (hd : 17 ≤ d) (L : Nat) : L ≤ cl_T e1 e2 d ↔ cl_C e1 e2 L ≤ 60 * d := by
  rw [cl_gc H]
  have := cl_E0 H (t := 60 * d) (by omega)
  unfold cl_T
  generalize ns_E e1 e2 (60 * d) = E at *
  omega
theorem cl_CO (e1 e2 L d : Nat) : cl_C e1 e2 L ≤ 60 * d ↔ cl_O e1 e2 L ≤ d := by
  unfold cl_O
  generalize cl_C e1 e2 L = c
  omega
theorem cl_TO {e1 e2 : Nat} (H : cl_ok e1 e2) {d : Nat} (hd : 17 ≤ d) (L : Nat) : L ≤ cl_T e1 e2 d ↔ cl_O e1 e2 L ≤ d := by
  rw [cl_TC H hd, cl_CO]
theorem cl_Om {e1 e2 : Nat} (H : cl_ok e1 e2) {L M : Nat} (h : L ≤ M) : cl_O e1 e2 L ≤ cl_O e1 e2 M := by
  have := cl_Cm H h
  unfold cl_O
  omega
theorem cl_Tb {e1 e2 : Nat} (H : cl_ok e1 e2) {d : Nat} (hd : 100 ≤ d) (hd2 : d ≤ 1901000) : d ≤ cl_T e1 e2 d ∧ cl_T e1 e2 d < 1932000 := by
  have b := ns_Eb H.1 H.2 (60 * d)
  unfold cl_T
  generalize ns_E e1 e2 (60 * d) = E at *
  omega
/-- the lunation of a day -/
noncomputable def cl_k (e1 e2 d : Nat) : Nat := cl_T e1 e2 d / 30
theorem cl_kO {e1 e2 : Nat} (H : cl_ok e1 e2) {d : Nat} (hd : 17 ≤ d) (k : Nat) : k ≤ cl_k e1 e2 d ↔ cl_O e1 e2 (30 * k) ≤ d := by
  rw [← cl_TO H hd]
  unfold cl_k
  omega
theorem cl_kC {e1 e2 : Nat} (H : cl_ok e1 e2) {d : Nat} (hd : 17 ≤ d) (k : Nat) : k ≤ cl_k e1 e2 d ↔ cl_C e1 e2 (30 * k) ≤ 60 * d := by
  rw [← cl_TC H hd]
  unfold cl_k
  omega
theorem cl_kb {e1 e2 : Nat} (H : cl_ok e1 e2) {d : Nat} (hd : 900 ≤ d) (hd2 : d ≤ 1901000) : 30 ≤ cl_k e1 e2 d ∧ cl_k e1 e2 d < 64400 := by
  have := cl_Tb H (d := d) (by omega) hd2
  unfold cl_k
  omega
/-- the length of a lunation, in ticks -/
theorem cl_len {e1 e2 : Nat} (H : cl_ok e1 e2) {k : Nat} (hk : 1 ≤ k) (n : Nat) : 11834383710 * n ≤ 6679167 * (cl_C e1 e2 (30 * (k + n)) - cl_C e1 e2 (30 * k)) + 861612543 ∧ 6679167 * (cl_C e1 e2 (30 * (k + n)) - cl_C e1 e2 (30 * k)) ≤ 11834383710 * n + 861612543 ∧ cl_C e1 e2 (30 * k) ≤ cl_C e1 e2 (30 * (k + n)) := by
  have a := cl_lin H (L := 30 * k) (by omega)
  have b := cl_lin H (L := 30 * (k + n)) (by omega)
  have m := cl_Cm H (L := 30 * k) (M := 30 * (k + n)) (by omega)
  generalize cl_C e1 e2 (30 * k) = c at *
  generalize cl_C e1 e2 (30 * (k + n)) = d at *
  omega
theorem cl_len1 {e1 e2 : Nat} (H : cl_ok e1 e2) {k : Nat} (hk : 1 ≤ k) : cl_C e1 e2 (30 * k) + 1642 ≤ cl_C e1 e2 (30 * (k + 1)) ∧ cl_C e1 e2 (30 * (k + 1)) ≤ cl_C e1 e2 (30 * k) + 1901 := by
  have a := cl_len H hk 1
  generalize cl_C e1 e2 (30 * k) = c at *
  generalize cl_C e1 e2 (30 * (k + 1)) = d at *
  omega
theorem cl_lenO {e1 e2 : Nat} (H : cl_ok e1 e2) {k : Nat} (hk : 1 ≤ k) : cl_O e1 e2 (30 * k) + 27 ≤ cl_O e1 e2 (30 * (k + 1)) ∧ cl_O e1 e2 (30 * (k + 1)) ≤ cl_O e1 e2 (30 * k) + 33 := by
  have a := cl_len1 H hk
  unfold cl_O
  omega
/-- where the crossings lie -/
theorem cl_Cb {e1 e2 : Nat} (H : cl_ok e1 e2) {L : Nat} (h1 : 900 ≤ L) (h2 : L ≤ 1940000) : 53000 ≤ cl_C e1 e2 L ∧ cl_C e1 e2 L < 115000000 := by
  have a := cl_lin H (L := L) (by omega)
  generalize cl_C e1 e2 L = c at *
  omega

/-! signs -/
noncomputable def cl_z (e1 e2 k : Nat) : Nat := (ns_sun e1 (cl_C e1 e2 (30 * k))).toNat / 108000
theorem cl_s0 {e : Nat} (he : e ≤ 28) {t : Nat} (ht : 1000 ≤ t) : 0 ≤ ns_sun e t := by
  have b := (ns_sunb he t).2
  generalize ns_sun e t = s at *
  omega
theorem cl_zI {e1 e2 : Nat} (H : cl_ok e1 e2) {k : Nat} (hk : 30 ≤ k) (hk2 : k ≤ 64500) (s : Nat) : s ≤ cl_z e1 e2 k ↔ 108000 * (s : Int) ≤ ns_sun e1 (cl_C e1 e2 (30 * k)) := by
  have c := cl_Cb H (L := 30 * k) (by omega) (by omega)
  have := cl_s0 H.1 (t := cl_C e1 e2 (30 * k)) (by omega)
  unfold cl_z
  generalize ns_sun e1 (cl_C e1 e2 (30 * k)) = x at *
  omega
theorem cl_zm {e1 e2 : Nat} (H : cl_ok e1 e2) {k l : Nat} (h : k ≤ l) : cl_z e1 e2 k ≤ cl_z e1 e2 l := by
  have := ns_sunm H.1 (cl_Cm H (L := 30 * k) (M := 30 * l) (by omega))
  unfold cl_z
  omega
theorem cl_zb {e1 e2 : Nat} (H : cl_ok e1 e2) {k : Nat} (hk : 30 ≤ k) (hk2 : k ≤ 64500) : cl_z e1 e2 k < 70000 := by
  have c := cl_Cb H (L := 30 * k) (by omega) (by omega)
  have b := (ns_sunb H.1 (cl_C e1 e2 (30 * k))).1
  unfold cl_z
  generalize ns_sun e1 (cl_C e1 e2 (30 * k)) = x at *
  omega
/-- before the mean entry less 8 days: the sign isn't reached -/
theorem cl_n1 {e1 e2 : Nat} (H : cl_ok e1 e2) {k s g : Nat} (hk : 30 ≤ k) (hk2 : k ≤ 64500) (hg : 12960000 * g ≤ 394479457 * s) (h8 : 8 ≤ g) (h : cl_O e1 e2 (30 * k) ≤ g - 8) : cl_z e1 e2 k < s := by
  rw [← cl_CO] at h
  by_cases c : s ≤ cl_z e1 e2 k
  · rw [cl_zI H hk hk2] at c
    have m := ns_sunm H.1 h
    have b := (ns_sunb H.1 (60 * (g - 8))).1
    generalize ns_sun e1 (cl_C e1 e2 (30 * k)) = x at *
    generalize ns_sun e1 (60 * (g - 8)) = y at *
    omega
  · omega
/-- n lunations behind one that begins after (mean entry less 8 days): a sign is reached -/
theorem cl_n2 {e1 e2 : Nat} (H : cl_ok e1 e2) {k s g n j : Nat} (hk : 30 ≤ k) (hk2 : k + n ≤ 64500) (hg : 394479457 * s < 12960000 * g + 12960000) (h8 : 8 ≤ g) (h : ¬ cl_O e1 e2 (30 * k) ≤ g - 8)
    (hj : 23328000000 * 540 * 6679167 + 394479457 * 16056 * 6679167 + 42603781356000 * j * 6679167 + 23328000000 * 861612543 ≤ 23328000000 * 11834383710 * n) : s + j ≤ cl_z e1 e2 (k + n) := by
  rw [← cl_CO] at h
  rw [cl_zI H (by omega) hk2]
  have l := cl_len H (k := k) (by omega) n
  have b := (ns_sunb H.1 (cl_C e1 e2 (30 * (k + n)))).2
  generalize ns_sun e1 (cl_C e1 e2 (30 * (k + n))) = x at *
  generalize cl_C e1 e2 (30 * (k + n)) = d at *
  generalize cl_C e1 e2 (30 * k) = c at *
  omega
/-- n lunations on, the sign has grown by j -/
theorem cl_n3 {e1 e2 : Nat} (H : cl_ok e1 e2) {k n j : Nat} (hk : 30 ≤ k) (hk2 : k + n ≤ 64500)
    (hj : 394479457 * 32112 * 6679167 + 42603781356000 * j * 6679167 + 23328000000 * 861612543 ≤ 23328000000 * 11834383710 * n) : cl_z e1 e2 k + j ≤ cl_z e1 e2 (k + n) := by
  have z := (cl_zI H hk (by omega) (cl_z e1 e2 k)).mp (Nat.le_refl _)
  rw [cl_zI H (by omega) hk2]
  have l := cl_len H (k := k) (by omega) n
  have b := (ns_sunb H.1 (cl_C e1 e2 (30 * (k + n)))).2
  have a := (ns_sunb H.1 (cl_C e1 e2 (30 * k))).1
  generalize ns_sun e1 (cl_C e1 e2 (30 * (k + n))) = x at *
  generalize ns_sun e1 (cl_C e1 e2 (30 * k)) = y at *
  generalize cl_C e1 e2 (30 * (k + n)) = d at *
  generalize cl_C e1 e2 (30 * k) = c at *
  generalize cl_z e1 e2 k = w at *
  omega
/-- a sign not yet passed: a bound of the crossing -/
theorem cl_n4 {e1 e2 : Nat} (H : cl_ok e1 e2) {k s g j : Nat} (hk : 30 ≤ k) (hk2 : k ≤ 64500) (hg : 394479457 * s < 12960000 * g + 12960000) (h : cl_z e1 e2 k < s + j) : cl_C e1 e2 (30 * k) ≤ 60 * g + 332 + 1827 * j := by
  have z : ¬ (s + j ≤ cl_z e1 e2 k) := by omega
  rw [cl_zI H hk hk2] at z
  have b := (ns_sunb H.1 (cl_C e1 e2 (30 * k))).2
  generalize ns_sun e1 (cl_C e1 e2 (30 * k)) = x at *
  generalize cl_C e1 e2 (30 * k) = c at *
  omega
end
section
/-! numbers that both walks meet -/
def ns_tb : Nat → Int32 := upd (upd (upd (upd (upd (upd (upd (upd (upd (upd (upd (upd (upd (upd (upd (upd (upd (upd (upd (upd (upd (upd (upd (upd (upd (fun _ => 0) 0 0) 1 225) 2 449) 3 671) 4 890) 5 1105) 6 1315) 7 1520) 8 1719) 9 1910) 10 2093) 11 2267) 12 2431) 13 2585) 14 2728) 15 2859) 16 2978) 17 3084) 18 3177) 19 3256) 20 3321) 21 3372) 22 3409) 23 3431) 24 3438
theorem nx_tb : ∀ i, i < 25 → ns_tb i = nI (ns_s i) := by decide
theorem nx_5 {p : Nat} (hp : p < 2 ^ 53) : 5400 * (lN p / 394479457) + (5400 * (lN p - lN p / 394479457 * 394479457)) / 394479457 = lN (5400 * p / 394479457) := by
  have e1 : lN p / 394479457 = lN (p / 394479457) := pk_lDiv (b := 394479457) (by omega) (by decide) (by decide)
  have e2 : lN p - lN p / 394479457 * 394479457 = lN (p % 394479457) := pk_lRem (b := 394479457) (by omega) (by decide) (by decide)
  have e3 : 5400 * lN (p / 394479457) = lN (5400 * (p / 394479457)) := lN_mul 5400 _
  have e4 : 5400 * lN (p % 394479457) = lN (5400 * (p % 394479457)) := lN_mul 5400 _
  have e5 : lN (5400 * (p % 394479457)) / 394479457 = lN (5400 * (p % 394479457) / 394479457) := pk_lDiv (b := 394479457) (by omega) (by decide) (by decide)
  rw [e2, e1, e3, e4, e5, lN_add]
  exact congrArg lN (by omega)
theorem nx_sin {i f : Nat} (hi : i < 24) (hf : f < 13500) : (60 * (ns_tb (nI i).toNatClampNeg)) + ((((ns_tb (nI i + 1).toNatClampNeg) - (ns_tb (nI i).toNatClampNeg)) * nI f) / 225) = nI (60 * ns_s i + (ns_s (i + 1) - ns_s i) * f / 225) := by
  have t := ns_tab i hi
  have hm : (ns_s (i + 1) - ns_s i) * f ≤ 225 * 13500 := Nat.mul_le_mul (by omega) (by omega)
  have e : nI ((ns_s (i + 1) - ns_s i) * f) / 225 = nI ((ns_s (i + 1) - ns_s i) * f / 225) := pk_div (d := 225) (by omega) (by decide) (by decide)
  have e6 : 60 * nI (ns_s i) = nI (60 * ns_s i) := pk_mul 60 _
  rw [nI_1, nI_clamp (by omega), nI_clamp (by omega), nx_tb _ (by omega), nx_tb _ (by omega), pk_sub t.1, pk_mul, e, e6, nI_add]
def nx_ci (e a : Nat) : Int32 := if a < 648000 then nI (ns_x e a) else -nI (ns_x e a)
theorem ns_xle {e : Nat} (he : e ≤ 36) (a : Nat) : ns_x e a < 2 ^ 30 := by
  have hm : ns_R a * e ≤ 206280 * 36 := Nat.mul_le_mul (ns_Rle a) he
  unfold ns_x ns_g
  by_cases h : ns_R a * e / 360 ≤ 13500
  · rw [if_pos h]; omega
  · rw [if_neg h]; omega
theorem nx_an {m c : Nat} (hm : m < 2 ^ 62) (hc : c < 2 ^ 31) : ((lN m + lN c) - (lN m + lN c) / 1296000 * 1296000).toInt32 = nI ((m + c) % 1296000) := by
  rw [lN_add]
  have e : lN (m + c) - lN (m + c) / 1296000 * 1296000 = lN ((m + c) % 1296000) := pk_lRem (b := 1296000) (by omega) (by decide) (by decide)
  rw [e, lN_i]
theorem nx_mc {m e a : Nat} (hm : m < 2 ^ 60) (he : e ≤ 36) (h : 0 ≤ (m : Int) - ns_c e a) : lN m - (nx_ci e a).toInt64 = lN ((m : Int) - ns_c e a).toNat := by
  have hx := ns_xle he a
  unfold ns_c at h ⊢
  unfold nx_ci
  by_cases ha : a < 648000
  · rw [if_pos ha] at h ⊢
    rw [if_pos ha, nI_l (by omega), lN_sub (by omega)]
    exact congrArg lN (by omega)
  · rw [if_neg ha] at h ⊢
    rw [if_neg ha]
    apply Int64.toInt_inj.mp
    rw [Int64.toInt_sub, Int32.toInt_toInt64, sb_negT (by omega), pk_lT (by omega), pk_lT (by omega), Int.bmod_eq_of_le (by omega) (by omega)]
    omega
theorem nx_ms (t : Nat) : 5400 * (4320000 * t) / 394479457 = ns_ms t := by
  unfold ns_ms
  rw [show 5400 * (4320000 * t) = 23328000000 * t by omega]
theorem nx_mm (t : Nat) : 5400 * (57753336 * t) / 394479457 = ns_mm t := by
  unfold ns_mm
  rw [show 5400 * (57753336 * t) = 311868014400 * t by omega]
theorem nx_ma (t : Nat) : 5400 * (57265133 * t) / 394479457 = ns_ma t := by
  unfold ns_ma
  rw [show 5400 * (57265133 * t) = 309231718200 * t by omega]
theorem nx_mb {t : Nat} (ht : t < 2 ^ 27) : ns_ms t < 2 ^ 60 ∧ ns_mm t < 2 ^ 60 ∧ ns_ma t < 2 ^ 60 := by
  unfold ns_ms ns_mm ns_ma
  omega
theorem cl_m0 {e : Nat} (he : e ≤ 36) {t : Nat} (ht : 1000 ≤ t) : 0 ≤ ns_moon e t := by
  rw [ns_moond]
  have d := ns_cb2 he ((ns_ma t + 972000) % 1296000)
  generalize ns_c e ((ns_ma t + 972000) % 1296000) = c at *
  have n : 394479457 * ns_mm t ≤ 311868014400 * t ∧ 311868014400 * t < 394479457 * ns_mm t + 394479457 := by unfold ns_mm; omega
  omega
theorem nx_eb {e1 e2 : Nat} (H : cl_ok e1 e2) {t : Nat} (ht : t < 2 ^ 27) : (ns_E e1 e2 t).toNat < 2 ^ 62 ∧ (ns_sun e1 t).toNat < 2 ^ 62 ∧ (ns_moon e2 t).toNat < 2 ^ 62 := by
  have b := (ns_Eb H.1 H.2 t).1
  have c := (ns_sunb H.1 t).1
  have e : ns_moon e2 t = ns_E e1 e2 t + ns_sun e1 t := by unfold ns_E; omega
  rw [e]
  generalize ns_E e1 e2 t = x at *
  generalize ns_sun e1 t = y at *
  omega
theorem nx_T {e1 e2 d : Nat} (H : cl_ok e1 e2) (hd : d ≤ 2000000) : (lN (ns_E e1 e2 (60 * d)).toNat / 43200).toInt32 = nI (cl_T e1 e2 d) := by
  have e : lN (ns_E e1 e2 (60 * d)).toNat / 43200 = lN ((ns_E e1 e2 (60 * d)).toNat / 43200) := pk_lDiv (b := 43200) (by have := (nx_eb H (t := 60 * d) (by omega)).1; omega) (by decide) (by decide)
  rw [e, lN_i]
  rfl
theorem nx_Tb {e1 e2 d : Nat} (H : cl_ok e1 e2) (hd : d ≤ 2000000) : cl_T e1 e2 d < 2 ^ 30 := by
  have b := (ns_Eb H.1 H.2 (60 * d)).1
  unfold cl_T
  generalize ns_E e1 e2 (60 * d) = x at *
  omega
theorem nx_z {e1 e2 t : Nat} (H : cl_ok e1 e2) (ht : t < 2 ^ 27) : (lN (ns_sun e1 t).toNat / 108000).toInt32 = nI ((ns_sun e1 t).toNat / 108000) := by
  have e : lN (ns_sun e1 t).toNat / 108000 = lN ((ns_sun e1 t).toNat / 108000) := pk_lDiv (b := 108000) (by have := (nx_eb H ht).2.1; omega) (by decide) (by decide)
  rw [e, lN_i]
theorem nx_sb {m s : Int} (h0 : 0 ≤ s) (h : 0 ≤ m - s) : s.toNat ≤ m.toNat ∧ m.toNat - s.toNat = (m - s).toNat := by omega
def cl_g (s : Nat) : Nat := s * 1577917828 / 51840000
noncomputable def cl_pl (e1 e2 b t : Nat) : Int := if b = 0 then ns_sun e1 t else if b = 1 then ns_moon e2 t else ns_E e1 e2 t

/-! the component's reading methods -/
section
variable {f_leastDay f_greatestDay f_leastYear f_greatestYear f_sunTurns f_moonTurns f_anomalyTurns f_mostRows f_leapMark f_sunEpicycle f_moonEpicycle f_currentDay f_currentYear f_currentMonth f_currentLunarDay f_currentFlags f_rowCount : Int32} {a_sine a_lunations a_names a_conjunctions a_firstDays a_lengths a_monthRows : Nat → Int32}
theorem xq_mean {post : Int64 → Prop} (r : Nat) {t : Nat} (hr : r < 2 ^ 26) (ht : t < 2 ^ 27) (h : post (lN (5400 * (r * t) / 394479457))) : wpX_mean post (f_leastDay, f_greatestDay, f_leastYear, f_greatestYear, f_sunTurns, f_moonTurns, f_anomalyTurns, f_mostRows, f_leapMark, f_sunEpicycle, f_moonEpicycle, f_currentDay, f_currentYear, f_currentMonth, f_currentLunarDay, f_currentFlags, f_rowCount, a_sine, a_lunations, a_names, a_conjunctions, a_firstDays, a_lengths, a_monthRows) (nI r) (nI t) := by
  have hp : r * t < 2 ^ 26 * 2 ^ 27 := Nat.mul_lt_mul'' hr ht
  refine nm_r (e' := lN (r * t)) ?_ (And.intro (by decide) (nm_e (And.intro (by decide) (And.intro (by decide) ?_))))
  · rw [nI_l (by omega), nI_l (by omega), lN_mul]
  · exact ek_v (nx_5 (by omega)) h
theorem xq_s16 {post : Int32 → Prop} {h : Nat} (hh : h ≤ 324000) (hp : post (nI (ns_S h))) : wX_sineOf_16 post (nI h) f_leastDay f_greatestDay f_leastYear f_greatestYear f_sunTurns f_moonTurns f_anomalyTurns f_mostRows f_leapMark f_sunEpicycle f_moonEpicycle f_currentDay f_currentYear f_currentMonth f_currentLunarDay f_currentFlags f_rowCount ns_tb a_lunations a_names a_conjunctions a_firstDays a_lengths a_monthRows := by
  have e1 : nI h / 13500 = nI (h / 13500) := pk_div (d := 13500) (by omega) (by decide) (by decide)
  have e2 : nI h - nI h / 13500 * 13500 = nI (h % 13500) := pk_rem (d := 13500) (by omega) (by decide) (by decide)
  unfold ns_S at hp
  refine And.intro (by decide) (nm_r e1 (br_f (nI_pos (by omega)) (pk_lt (h / 13500) 24 (fun hi => ?_) (fun hi => ?_))))
  · rw [if_pos hi] at hp
    refine And.intro (by decide) (nm_r e2 (And.intro (pk_in (h / 13500) 25 (by omega)) (And.intro ?_ (And.intro (pk_in (h / 13500) 25 (by omega)) (And.intro (by decide) ?_)))))
    · rw [nI_1]; exact pk_in (h / 13500 + 1) 25 (by omega)
    · exact ek_v (nx_sin hi (by omega)) hp
  · rw [if_neg (by omega)] at hp
    exact hp
theorem xq_sine {post : Int32 → Prop} {a : Nat} (ha : a < 1296000) (hp : post (nI (ns_R a))) : wpX_sineOf post (f_leastDay, f_greatestDay, f_leastYear, f_greatestYear, f_sunTurns, f_moonTurns, f_anomalyTurns, f_mostRows, f_leapMark, f_sunEpicycle, f_moonEpicycle, f_currentDay, f_currentYear, f_currentMonth, f_currentLunarDay, f_currentFlags, f_rowCount, ns_tb, a_lunations, a_names, a_conjunctions, a_firstDays, a_lengths, a_monthRows) (nI a) := by
  have e1 : nI a - nI a / 648000 * 648000 = nI (a % 648000) := pk_rem (d := 648000) (by omega) (by decide) (by decide)
  unfold ns_R at hp
  refine And.intro (by decide) (nm_r e1 (pk_le (a % 648000) 324000 (fun h => ?_) (fun h => ?_)))
  · rw [if_pos h] at hp
    exact xq_s16 h hp
  · rw [if_neg (by omega)] at hp
    exact nm_r (e' := nI (648000 - a % 648000)) (pk_sub (a := 648000) (by omega)) (xq_s16 (by omega) hp)
theorem xq_37 {post : Int32 → Prop} {a x : Nat} (ha : a < 1296000) (h : post (if a < 648000 then nI x else -nI x)) : wX_correction_37 post (nI a) (nI x) f_leastDay f_greatestDay f_leastYear f_greatestYear f_sunTurns f_moonTurns f_anomalyTurns f_mostRows f_leapMark f_sunEpicycle f_moonEpicycle f_currentDay f_currentYear f_currentMonth f_currentLunarDay f_currentFlags f_rowCount a_sine a_lunations a_names a_conjunctions a_firstDays a_lengths a_monthRows := by
  refine pk_le 648000 a (fun h1 => ?_) (fun h1 => ?_)
  · rw [if_neg (by omega)] at h
    exact h
  · rw [if_pos (by omega)] at h
    exact h
theorem xq_corr {post : Int32 → Prop} {e a : Nat} (he : e ≤ 36) (ha : a < 1296000) (h : post (nx_ci e a)) : wpX_correction post (f_leastDay, f_greatestDay, f_leastYear, f_greatestYear, f_sunTurns, f_moonTurns, f_anomalyTurns, f_mostRows, f_leapMark, f_sunEpicycle, f_moonEpicycle, f_currentDay, f_currentYear, f_currentMonth, f_currentLunarDay, f_currentFlags, f_rowCount, ns_tb, a_lunations, a_names, a_conjunctions, a_firstDays, a_lengths, a_monthRows) (nI e) (nI a) := by
  have hm : ns_R a * e ≤ 206280 * 36 := Nat.mul_le_mul (ns_Rle a) he
  have e1 : nI (ns_R a) * nI e / 360 = nI (ns_R a * e / 360) := by
    rw [pk_mul]
    exact pk_div (d := 360) (by omega) (by decide) (by decide)
  unfold nx_ci ns_x ns_g at h
  unfold wpX_correction
  dsimp only
  refine xq_sine ha ?_
  refine And.intro (by decide) (nm_r e1 (pk_le (ns_R a * e / 360) 13500 (fun h1 => ?_) (fun h1 => ?_)))
  · rw [if_pos h1] at h
    exact xq_37 ha h
  · rw [if_neg (show ¬ ns_R a * e / 360 ≤ 13500 by omega)] at h
    refine And.intro (by decide) (nm_r (e' := nI (13500 + (ns_R a * e / 360 - 13500) * 225 / 224)) ?_ (xq_37 ha h))
    have e2 : nI (ns_R a * e / 360) - 13500 = nI (ns_R a * e / 360 - 13500) := pk_sub (b := 13500) (by omega)
    have e3 : nI (ns_R a * e / 360 - 13500) * 225 = nI ((ns_R a * e / 360 - 13500) * 225) := pk_mul _ 225
    have e4 : nI ((ns_R a * e / 360 - 13500) * 225) / 224 = nI ((ns_R a * e / 360 - 13500) * 225 / 224) := pk_div (d := 224) (by omega) (by decide) (by decide)
    rw [e2, e3, e4]
    exact nI_add 13500 _
end
section
variable {e1 e2 : Nat}
variable {f_leastDay f_greatestDay f_leastYear f_greatestYear f_sunTurns f_moonTurns f_anomalyTurns f_mostRows f_leapMark f_sunEpicycle f_moonEpicycle f_currentDay f_currentYear f_currentMonth f_currentLunarDay f_currentFlags f_rowCount : Int32} {a_sine a_lunations a_names a_conjunctions a_firstDays a_lengths a_monthRows : Nat → Int32}
theorem xq_sun {post : Int64 → Prop} (H : cl_ok e1 e2) {p : Int32} {t : Nat} (hp : p = nI t) (h1 : 1000 ≤ t) (h2 : t < 2 ^ 27) (h : post (lN (ns_sun e1 t).toNat)) : wpX_sunAt post (f_leastDay, f_greatestDay, f_leastYear, f_greatestYear, f_sunTurns, f_moonTurns, f_anomalyTurns, f_mostRows, f_leapMark, nI e1, nI e2, f_currentDay, f_currentYear, f_currentMonth, f_currentLunarDay, f_currentFlags, f_rowCount, ns_tb, a_lunations, a_names, a_conjunctions, a_firstDays, a_lengths, a_monthRows) p := by
  subst hp
  have mb := nx_mb h2
  have s0 := cl_s0 H.1 h1
  rw [ns_sund] at h s0
  unfold wpX_sunAt
  dsimp only
  refine xq_mean 4320000 (by decide) h2 ?_
  rw [nx_ms]
  refine And.intro (by decide) (nm_r (e' := nI ((ns_ms t + 1017780) % 1296000)) (nx_an (c := 1017780) (by omega) (by decide)) (xq_corr (by have := H.1; omega) (Nat.mod_lt _ (by decide)) ?_))
  exact ek_v (nx_mc (by omega) (by have := H.1; omega) s0) h
theorem xq_moon {post : Int64 → Prop} (H : cl_ok e1 e2) {p : Int32} {t : Nat} (hp : p = nI t) (h1 : 1000 ≤ t) (h2 : t < 2 ^ 27) (h : post (lN (ns_moon e2 t).toNat)) : wpX_moonAt post (f_leastDay, f_greatestDay, f_leastYear, f_greatestYear, f_sunTurns, f_moonTurns, f_anomalyTurns, f_mostRows, f_leapMark, nI e1, nI e2, f_currentDay, f_currentYear, f_currentMonth, f_currentLunarDay, f_currentFlags, f_rowCount, ns_tb, a_lunations, a_names, a_conjunctions, a_firstDays, a_lengths, a_monthRows) p := by
  subst hp
  have mb := nx_mb h2
  have s0 := cl_m0 H.2 h1
  rw [ns_moond] at h s0
  unfold wpX_moonAt
  dsimp only
  refine xq_mean 57265133 (by decide) h2 ?_
  rw [nx_ma]
  refine And.intro (by decide) (nm_r (e' := nI ((ns_ma t + 972000) % 1296000)) (nx_an (c := 972000) (by omega) (by decide)) ?_)
  refine xq_mean 57753336 (by decide) h2 ?_
  rw [nx_mm]
  refine xq_corr H.2 (Nat.mod_lt _ (by decide)) ?_
  exact ek_v (nx_mc (by omega) H.2 s0) h
theorem xq_el {post : Int64 → Prop} (H : cl_ok e1 e2) {p : Int32} {t : Nat} (hp : p = nI t) (h1 : 1000 ≤ t) (h2 : t < 2 ^ 27) (h : post (lN (ns_E e1 e2 t).toNat)) : wpX_elongationAt post (f_leastDay, f_greatestDay, f_leastYear, f_greatestYear, f_sunTurns, f_moonTurns, f_anomalyTurns, f_mostRows, f_leapMark, nI e1, nI e2, f_currentDay, f_currentYear, f_currentMonth, f_currentLunarDay, f_currentFlags, f_rowCount, ns_tb, a_lunations, a_names, a_conjunctions, a_firstDays, a_lengths, a_monthRows) p := by
  unfold wpX_elongationAt
  dsimp only
  refine xq_moon H hp h1 h2 ?_
  refine xq_sun H hp h1 h2 ?_
  have s0 := cl_s0 H.1 h1
  have m0 := cl_E0 H h1
  unfold ns_E at h m0
  have q := nx_sb s0 m0
  refine ek_v (lN_sub q.1) ?_
  rw [q.2]
  exact h
theorem xq_pl {post : Int64 → Prop} (H : cl_ok e1 e2) {b t : Nat} (hb : b ≤ 2) {p : Int32} (hp : p = nI t) (h1 : 1000 ≤ t) (h2 : t < 2 ^ 27) (h : post (lN (cl_pl e1 e2 b t).toNat)) : wpX_placeOf post (f_leastDay, f_greatestDay, f_leastYear, f_greatestYear, f_sunTurns, f_moonTurns, f_anomalyTurns, f_mostRows, f_leapMark, nI e1, nI e2, f_currentDay, f_currentYear, f_currentMonth, f_currentLunarDay, f_currentFlags, f_rowCount, ns_tb, a_lunations, a_names, a_conjunctions, a_firstDays, a_lengths, a_monthRows) (nI b) p := by
  unfold cl_pl at h
  refine pk_eq b 0 (fun h0 => ?_) (fun h0 => pk_eq b 1 (fun h3 => ?_) (fun h3 => ?_))
  · rw [if_pos h0] at h
    exact xq_sun H hp h1 h2 h
  · rw [if_neg h0, if_pos h3] at h
    exact xq_moon H hp h1 h2 h
  · rw [if_neg h0, if_neg h3] at h
    exact xq_el H hp h1 h2 h
theorem xq_lc {post : Int32 → Prop} (H : cl_ok e1 e2) {p : Int32} {d : Nat} (hp : p = nI d) (h1 : 17 ≤ d) (h2 : d ≤ 2000000) (h : post (nI (cl_T e1 e2 d))) : wpX_lunarCount post (f_leastDay, f_greatestDay, f_leastYear, f_greatestYear, f_sunTurns, f_moonTurns, f_anomalyTurns, f_mostRows, f_leapMark, nI e1, nI e2, f_currentDay, f_currentYear, f_currentMonth, f_currentLunarDay, f_currentFlags, f_rowCount, ns_tb, a_lunations, a_names, a_conjunctions, a_firstDays, a_lengths, a_monthRows) p := by
  subst hp
  unfold wpX_lunarCount
  dsimp only
  refine xq_el H (pk_mul 60 d) (by omega) (by omega) ?_
  exact And.intro (by decide) (ek_v (nx_T H h2) h)
theorem xq_35 {post : Int32 → Prop} (H : cl_ok e1 e2) {L : Nat} (hL : L < 2 ^ 30) (hC : cl_C e1 e2 L < 115000000) (hp : post (nI (cl_C e1 e2 L))) : ∀ (j n t : Nat), j ≤ 7 → j < n → t < cl_C e1 e2 L → cl_C e1 e2 L ≤ t + 2 ^ j → 1000 ≤ t → wX_crossing_35 post (lN (43200 * L)) f_leastDay f_greatestDay f_leastYear f_greatestYear f_sunTurns f_moonTurns f_anomalyTurns f_mostRows f_leapMark (nI e1) (nI e2) f_currentDay f_currentYear f_currentMonth f_currentLunarDay f_currentFlags f_rowCount ns_tb a_lunations a_names a_conjunctions a_firstDays a_lengths a_monthRows n (nI t) (nI (2 ^ j / 2)) := by
  intro j
  induction j with
  | zero =>
    intro n t _ hn h1 h2 _
    obtain ⟨m, rfl⟩ : ∃ m, n = m + 1 := ⟨n - 1, by omega⟩
    refine br_t (by decide) ?_
    rw [nI_1, show t + 1 = cl_C e1 e2 L by omega]
    exact hp
  | succ j ih =>
    intro n t hj hn h1 h2 h3
    obtain ⟨m, rfl⟩ : ∃ m, n = m + 1 := ⟨n - 1, by omega⟩
    have pj : 2 ^ j ≤ 2 ^ 6 := Nat.pow_le_pow_right (by decide) (by omega)
    have p0 : 0 < 2 ^ j := Nat.two_pow_pos j
    have e : 2 ^ (j + 1) / 2 = 2 ^ j := by rw [Nat.pow_succ, Nat.mul_div_cancel _ (by decide)]
    have ej : 2 ^ (j + 1) = 2 ^ j + 2 ^ j := by rw [Nat.pow_succ]; omega
    rw [e]
    rw [ej] at h2
    have ed : nI (2 ^ j) / 2 = nI (2 ^ j / 2) := pk_div (d := 2) (by omega) (by decide) (by decide)
    refine br_f (nI_nle p0 (by omega)) (xq_el H (t := t + 2 ^ j) (nI_add _ _) (by omega) (by omega) ?_)
    have eb := (nx_eb H (t := t + 2 ^ j) (by omega)).1
    have e0 := cl_E0 H (t := t + 2 ^ j) (by omega)
    have g := cl_gc H L (t + 2 ^ j)
    refine ek_if (d := cl_C e1 e2 L ≤ t + 2 ^ j) ?_ (fun hc => ?_) (fun hc => ?_)
    · rw [pk_lLE (by omega) (by omega), g]
      omega
    · exact And.intro (by decide) (nm_r ed (ih m t (by omega) (by omega) h1 hc h3))
    · have cb := Nat.lt_of_not_le hc
      exact nm_r (nI_add _ _) (And.intro (by decide) (nm_r ed (ih m (t + 2 ^ j) (by omega) (by omega) cb (by omega) (by omega))))
theorem xq_cr {post : Int32 → Prop} (H : cl_ok e1 e2) {p : Int32} {L : Nat} (hp : p = nI L) (h1 : 900 ≤ L) (h2 : L ≤ 1940000) (h : post (nI (cl_C e1 e2 L))) : wpX_crossing post (f_leastDay, f_greatestDay, f_leastYear, f_greatestYear, f_sunTurns, f_moonTurns, f_anomalyTurns, f_mostRows, f_leapMark, nI e1, nI e2, f_currentDay, f_currentYear, f_currentMonth, f_currentLunarDay, f_currentFlags, f_rowCount, ns_tb, a_lunations, a_names, a_conjunctions, a_firstDays, a_lengths, a_monthRows) p := by
  subst hp
  have b := cl_b H (L := L) (G := 8 * L * 394479457 / 53433336) (by omega) (by omega) (by omega)
  have cb := cl_Cb H (L := L) h1 h2
  have k8 : 8 * lN L = lN (8 * L) := lN_mul 8 L
  have k9 : lN (8 * L) * 394479457 = lN (8 * L * 394479457) := lN_mul _ 394479457
  have k10 : lN (8 * L * 394479457) / 53433336 = lN (8 * L * 394479457 / 53433336) := pk_lDiv (b := 53433336) (by omega) (by decide) (by decide)
  refine nm_r (e' := lN (43200 * L)) ?_ (And.intro (by decide) (nm_r (e' := lN (8 * L * 394479457 / 53433336)) ?_ (nm_r (e' := nI (8 * L * 394479457 / 53433336 - 64)) ?_ ⟨8, ?_⟩)))
  · rw [nI_l (by omega)]
    exact lN_mul 43200 L
  · rw [nI_l (by omega), k8, k9, k10]
  · rw [lN_i]
    exact pk_sub (b := 64) (by omega)
  · exact xq_35 H (by omega) cb.2 h 7 8 _ (by omega) (by omega) b.1 (by omega) (by omega)
theorem xq_conj {post : Int32 → Prop} (H : cl_ok e1 e2) {p : Int32} {k : Nat} (hp : p = nI k) (h1 : 30 ≤ k) (h2 : k ≤ 64500) (h : post (nI (cl_C e1 e2 (30 * k)))) : wpX_conjunction post (f_leastDay, f_greatestDay, f_leastYear, f_greatestYear, f_sunTurns, f_moonTurns, f_anomalyTurns, f_mostRows, f_leapMark, nI e1, nI e2, f_currentDay, f_currentYear, f_currentMonth, f_currentLunarDay, f_currentFlags, f_rowCount, ns_tb, a_lunations, a_names, a_conjunctions, a_firstDays, a_lengths, a_monthRows) p := by
  subst hp
  unfold wpX_conjunction
  dsimp only
  exact xq_cr H (pk_mul 30 k) (by omega) (by omega) h
theorem xq_sa {post : Int32 → Prop} (H : cl_ok e1 e2) {p : Int32} {t : Nat} (hp : p = nI t) (h1 : 1000 ≤ t) (h2 : t < 2 ^ 27) (h : post (nI ((ns_sun e1 t).toNat / 108000))) : wpX_signAt post (f_leastDay, f_greatestDay, f_leastYear, f_greatestYear, f_sunTurns, f_moonTurns, f_anomalyTurns, f_mostRows, f_leapMark, nI e1, nI e2, f_currentDay, f_currentYear, f_currentMonth, f_currentLunarDay, f_currentFlags, f_rowCount, ns_tb, a_lunations, a_names, a_conjunctions, a_firstDays, a_lengths, a_monthRows) p := by
  unfold wpX_signAt
  dsimp only
  refine xq_sun H hp h1 h2 ?_
  exact And.intro (by decide) (ek_v (nx_z H h2) h)
theorem xq_os {post : Int32 → Prop} (H : cl_ok e1 e2) {p : Int32} {k : Nat} (hp : p = nI k) (h1 : 30 ≤ k) (h2 : k ≤ 64500) (h : post (nI (cl_z e1 e2 k))) : wpX_openingSign post (f_leastDay, f_greatestDay, f_leastYear, f_greatestYear, f_sunTurns, f_moonTurns, f_anomalyTurns, f_mostRows, f_leapMark, nI e1, nI e2, f_currentDay, f_currentYear, f_currentMonth, f_currentLunarDay, f_currentFlags, f_rowCount, ns_tb, a_lunations, a_names, a_conjunctions, a_firstDays, a_lengths, a_monthRows) p := by
  have cb := cl_Cb H (L := 30 * k) (by omega) (by omega)
  unfold wpX_openingSign
  dsimp only
  refine xq_conj H hp h1 h2 ?_
  exact xq_sa H rfl (by omega) (by omega) h
theorem xq_yo {post : Int32 → Prop} {z : Nat} (hz : z < 2 ^ 30) (h : post (nI ((z + 1) / 12))) : wpX_yearOf post (f_leastDay, f_greatestDay, f_leastYear, f_greatestYear, f_sunTurns, f_moonTurns, f_anomalyTurns, f_mostRows, f_leapMark, f_sunEpicycle, f_moonEpicycle, f_currentDay, f_currentYear, f_currentMonth, f_currentLunarDay, f_currentFlags, f_rowCount, a_sine, a_lunations, a_names, a_conjunctions, a_firstDays, a_lengths, a_monthRows) (nI z) := by
  have e : nI (z + 1) / 12 = nI ((z + 1) / 12) := pk_div (d := 12) (by omega) (by decide) (by decide)
  refine And.intro (by decide) ?_
  rw [nI_1, e]
  exact h
theorem nx_mo {z : Nat} (hz : z < 2 ^ 30) : ((nI z + 1) - (nI z + 1) / 12 * 12) + 1 = nI ((z + 1) % 12 + 1) := by
  have e : nI (z + 1) - nI (z + 1) / 12 * 12 = nI ((z + 1) % 12) := pk_rem (d := 12) (by omega) (by decide) (by decide)
  rw [nI_1 z, e, nI_1]
theorem xq_mo {post : Int32 → Prop} {z : Nat} (hz : z < 2 ^ 30) (h : post (nI ((z + 1) % 12 + 1))) : wpX_monthOf post (f_leastDay, f_greatestDay, f_leastYear, f_greatestYear, f_sunTurns, f_moonTurns, f_anomalyTurns, f_mostRows, f_leapMark, f_sunEpicycle, f_moonEpicycle, f_currentDay, f_currentYear, f_currentMonth, f_currentLunarDay, f_currentFlags, f_rowCount, a_sine, a_lunations, a_names, a_conjunctions, a_firstDays, a_lengths, a_monthRows) (nI z) := by
  exact And.intro (by decide) (ek_v (nx_mo hz) h)
theorem xq_sr {post : Int32 → Prop} {p : Int32} {t : Nat} (hp : p = nI t) (ht : t < 2 ^ 30) (h : post (nI ((t + 59) / 60))) : wpX_sunriseFrom post (f_leastDay, f_greatestDay, f_leastYear, f_greatestYear, f_sunTurns, f_moonTurns, f_anomalyTurns, f_mostRows, f_leapMark, f_sunEpicycle, f_moonEpicycle, f_currentDay, f_currentYear, f_currentMonth, f_currentLunarDay, f_currentFlags, f_rowCount, a_sine, a_lunations, a_names, a_conjunctions, a_firstDays, a_lengths, a_monthRows) p := by
  subst hp
  have e0 : nI t + 59 = nI (t + 59) := nI_add t 59
  have e : nI (t + 59) / 60 = nI ((t + 59) / 60) := pk_div (d := 60) (by omega) (by decide) (by decide)
  refine And.intro (by decide) ?_
  rw [e0, e]
  exact h
theorem xq_od {post : Int32 → Prop} (H : cl_ok e1 e2) {p : Int32} {L : Nat} (hp : p = nI L) (h1 : 900 ≤ L) (h2 : L ≤ 1940000) (h : post (nI (cl_O e1 e2 L))) : wpX_openingDay post (f_leastDay, f_greatestDay, f_leastYear, f_greatestYear, f_sunTurns, f_moonTurns, f_anomalyTurns, f_mostRows, f_leapMark, nI e1, nI e2, f_currentDay, f_currentYear, f_currentMonth, f_currentLunarDay, f_currentFlags, f_rowCount, ns_tb, a_lunations, a_names, a_conjunctions, a_firstDays, a_lengths, a_monthRows) p := by
  have cb := cl_Cb H (L := L) (by omega) (by omega)
  unfold wpX_openingDay
  dsimp only
  refine xq_cr H hp h1 h2 ?_
  exact xq_sr rfl (by omega) h
theorem xq_lb {post : Int32 → Prop} (H : cl_ok e1 e2) {p : Int32} {s : Nat} (hp : p = nI s) (h1 : 47 ≤ s) (h2 : s ≤ 62500) (h : post (nI (cl_k e1 e2 (cl_g s - 8)))) : wpX_lunationBefore post (f_leastDay, f_greatestDay, f_leastYear, f_greatestYear, f_sunTurns, f_moonTurns, f_anomalyTurns, f_mostRows, f_leapMark, nI e1, nI e2, f_currentDay, f_currentYear, f_currentMonth, f_currentLunarDay, f_currentFlags, f_rowCount, ns_tb, a_lunations, a_names, a_conjunctions, a_firstDays, a_lengths, a_monthRows) p := by
  subst hp
  have hg : 1430 ≤ cl_g s ∧ cl_g s ≤ 1903000 := by unfold cl_g; omega
  have k8 : lN s * 1577917828 = lN (s * 1577917828) := lN_mul _ 1577917828
  have k9 : lN (s * 1577917828) / 51840000 = lN (cl_g s) := pk_lDiv (b := 51840000) (by omega) (by decide) (by decide)
  refine And.intro (by decide) (nm_r (e' := lN (cl_g s)) ?_ (nm_r (e' := nI (cl_g s - 8)) ?_ (xq_lc H rfl (by omega) (by omega) ?_)))
  · rw [nI_l (by omega), k8, k9]
  · rw [lN_i]
    exact pk_sub (b := 8) (by omega)
  · have e : nI (cl_T e1 e2 (cl_g s - 8)) / 30 = nI (cl_k e1 e2 (cl_g s - 8)) := pk_div (d := 30) (by have := nx_Tb H (d := cl_g s - 8) (by omega); omega) (by decide) (by decide)
    exact And.intro (by decide) (ek_v e h)
end
end
section
/-! the reference's reading methods -/
noncomputable def cl_lm (e1 e2 k : Nat) : Nat := if cl_z e1 e2 (k + 1) = cl_z e1 e2 k then 1 else 0
noncomputable def cl_ld (e1 e2 d : Nat) : Nat := if cl_T e1 e2 d = cl_T e1 e2 (d - 1) then 1 else 0
section
variable {f_sunEpicycle f_moonEpicycle f_current f_rowCount : Int32} {a_s a_firstDay a_rowNames a_times : Nat → Int32}
theorem yq_mean {post : Int64 → Prop} (r : Nat) {p : Int64} {t : Nat} (hr : r < 2 ^ 26) (hp : p = lN t) (ht : t < 2 ^ 27) (h : post (lN (5400 * (r * t) / 394479457))) : wpY_mean post (f_sunEpicycle, f_moonEpicycle, f_current, f_rowCount, a_s, a_firstDay, a_rowNames, a_times) (lN r) p := by
  subst hp
  have hp : r * t < 2 ^ 26 * 2 ^ 27 := Nat.mul_lt_mul'' hr ht
  refine nm_r (lN_mul r t) (And.intro (by decide) (And.intro (by decide) (And.intro (by decide) ?_)))
  exact ek_v (nx_5 (by omega)) h
theorem yq_s16 {post : Int32 → Prop} {h : Nat} (hh : h ≤ 324000) (hp : post (nI (ns_S h))) : wY_sine_16 post (nI h) f_sunEpicycle f_moonEpicycle f_current f_rowCount ns_tb a_firstDay a_rowNames a_times := by
  have e1 : nI h / 13500 = nI (h / 13500) := pk_div (d := 13500) (by omega) (by decide) (by decide)
  have e2 : nI h - nI h / 13500 * 13500 = nI (h % 13500) := pk_rem (d := 13500) (by omega) (by decide) (by decide)
  unfold ns_S at hp
  refine And.intro (by decide) (nm_r e1 (And.intro (by decide) (nm_r e2 (br_f (nI_pos (by omega)) (pk_lt (h / 13500) 24 (fun hi => ?_) (fun hi => ?_))))))
  · rw [if_pos hi] at hp
    refine And.intro (pk_in (h / 13500) 25 (by omega)) (And.intro ?_ (And.intro (pk_in (h / 13500) 25 (by omega)) (And.intro (by decide) ?_)))
    · rw [nI_1]; exact pk_in (h / 13500 + 1) 25 (by omega)
    · exact ek_v (nx_sin hi (by omega)) hp
  · rw [if_neg (by omega)] at hp
    exact hp
theorem yq_sine {post : Int32 → Prop} {a : Nat} (ha : a < 1296000) (hp : post (nI (ns_R a))) : wpY_sine post (f_sunEpicycle, f_moonEpicycle, f_current, f_rowCount, ns_tb, a_firstDay, a_rowNames, a_times) (nI a) := by
  have e1 : nI a - nI a / 648000 * 648000 = nI (a % 648000) := pk_rem (d := 648000) (by omega) (by decide) (by decide)
  unfold ns_R at hp
  refine And.intro (by decide) (nm_r e1 (pk_le (a % 648000) 324000 (fun h => ?_) (fun h => ?_)))
  · rw [if_pos h] at hp
    exact yq_s16 h hp
  · rw [if_neg (by omega)] at hp
    exact nm_r (e' := nI (648000 - a % 648000)) (pk_sub (a := 648000) (by omega)) (yq_s16 (by omega) hp)
theorem yq_37 {post : Int32 → Prop} {a x : Nat} (ha : a < 1296000) (h : post (if a < 648000 then nI x else -nI x)) : wY_correction_37 post (nI a) (nI x) f_sunEpicycle f_moonEpicycle f_current f_rowCount a_s a_firstDay a_rowNames a_times := by
  refine pk_le 648000 a (fun h1 => ?_) (fun h1 => ?_)
  · rw [if_neg (by omega)] at h
    exact h
  · rw [if_pos (by omega)] at h
    exact h
theorem yq_corr {post : Int32 → Prop} {e a : Nat} (he : e ≤ 36) (ha : a < 1296000) (h : post (nx_ci e a)) : wpY_correction post (f_sunEpicycle, f_moonEpicycle, f_current, f_rowCount, ns_tb, a_firstDay, a_rowNames, a_times) (nI e) (nI a) := by
  have hm : ns_R a * e ≤ 206280 * 36 := Nat.mul_le_mul (ns_Rle a) he
  have e1 : nI (ns_R a) * nI e / 360 = nI (ns_R a * e / 360) := by
    rw [pk_mul]
    exact pk_div (d := 360) (by omega) (by decide) (by decide)
  unfold nx_ci ns_x ns_g at h
  unfold wpY_correction
  dsimp only
  refine yq_sine ha ?_
  refine And.intro (by decide) (nm_r e1 (pk_le (ns_R a * e / 360) 13500 (fun h1 => ?_) (fun h1 => ?_)))
  · rw [if_pos h1] at h
    exact yq_37 ha h
  · rw [if_neg (show ¬ ns_R a * e / 360 ≤ 13500 by omega)] at h
    refine And.intro (by decide) (nm_r (e' := nI (13500 + (ns_R a * e / 360 - 13500) * 225 / 224)) ?_ (yq_37 ha h))
    have e2 : nI (ns_R a * e / 360) - 13500 = nI (ns_R a * e / 360 - 13500) := pk_sub (b := 13500) (by omega)
    have e3 : nI (ns_R a * e / 360 - 13500) * 225 = nI ((ns_R a * e / 360 - 13500) * 225) := pk_mul _ 225
    have e4 : nI ((ns_R a * e / 360 - 13500) * 225) / 224 = nI ((ns_R a * e / 360 - 13500) * 225 / 224) := pk_div (d := 224) (by omega) (by decide) (by decide)
    rw [e2, e3, e4]
    exact nI_add 13500 _
end
section
variable {e1 e2 : Nat}
variable {f_sunEpicycle f_moonEpicycle f_current f_rowCount : Int32} {a_s a_firstDay a_rowNames a_times : Nat → Int32}
theorem yq_at {post : Int64 → Prop} (H : cl_ok e1 e2) {b t : Nat} (hb : b ≤ 2) {p : Int32} (hp : p = nI t) (h1 : 1000 ≤ t) (h2 : t < 2 ^ 27) (h : post (lN (cl_pl e1 e2 b t).toNat)) : wpY_at post (nI e1, nI e2, f_current, f_rowCount, ns_tb, a_firstDay, a_rowNames, a_times) (nI b) p := by
  subst hp
  have mb := nx_mb h2
  have s0 := cl_s0 H.1 h1
  have m0 := cl_m0 H.2 h1
  have x0 := cl_E0 H h1
  have hl : (nI t).toInt64 = lN t := nI_l (by omega)
  have s1 := s0
  have m1 := m0
  rw [ns_sund] at s1
  rw [ns_moond] at m1
  unfold cl_pl at h
  unfold wpY_at
  dsimp only
  refine yq_mean 4320000 (by decide) hl h2 ?_
  rw [nx_ms]
  refine And.intro (by decide) (nm_r (e' := nI ((ns_ms t + 1017780) % 1296000)) (nx_an (c := 1017780) (by omega) (by decide)) (yq_corr (by have := H.1; omega) (Nat.mod_lt _ (by decide)) ?_))
  refine nm_r (e' := lN (ns_sun e1 t).toNat) ((nx_mc (by omega) (by have := H.1; omega) s1).trans (by rw [ns_sund])) (pk_eq b 0 (fun h0 => ?_) (fun h0 => ?_))
  · rw [if_pos h0] at h
    exact h
  · rw [if_neg h0] at h
    refine yq_mean 57265133 (by decide) hl h2 ?_
    rw [nx_ma]
    refine And.intro (by decide) (nm_r (e' := nI ((ns_ma t + 972000) % 1296000)) (nx_an (c := 972000) (by omega) (by decide)) ?_)
    refine yq_mean 57753336 (by decide) hl h2 ?_
    rw [nx_mm]
    refine yq_corr H.2 (Nat.mod_lt _ (by decide)) ?_
    refine nm_r (e' := lN (ns_moon e2 t).toNat) ((nx_mc (by omega) H.2 m1).trans (by rw [ns_moond])) (pk_eq b 1 (fun h3 => ?_) (fun h3 => ?_))
    · rw [if_pos h3] at h
      exact h
    · rw [if_neg h3] at h
      unfold ns_E at h x0
      have q := nx_sb s0 x0
      refine ek_v (lN_sub q.1) ?_
      rw [q.2]
      exact h
theorem yq_el {post : Int64 → Prop} (H : cl_ok e1 e2) {p : Int32} {t : Nat} (hp : p = nI t) (h1 : 1000 ≤ t) (h2 : t < 2 ^ 27) (h : post (lN (ns_E e1 e2 t).toNat)) : wpY_at post (nI e1, nI e2, f_current, f_rowCount, ns_tb, a_firstDay, a_rowNames, a_times) 2 p :=
  yq_at H (b := 2) (by decide) hp h1 h2 h
theorem yq_sun {post : Int64 → Prop} (H : cl_ok e1 e2) {p : Int32} {t : Nat} (hp : p = nI t) (h1 : 1000 ≤ t) (h2 : t < 2 ^ 27) (h : post (lN (ns_sun e1 t).toNat)) : wpY_at post (nI e1, nI e2, f_current, f_rowCount, ns_tb, a_firstDay, a_rowNames, a_times) 0 p :=
  yq_at H (b := 0) (by decide) hp h1 h2 h
theorem yq_lc {post : Int32 → Prop} (H : cl_ok e1 e2) {p : Int32} {d : Nat} (hp : p = nI d) (h1 : 17 ≤ d) (h2 : d ≤ 2000000) (h : post (nI (cl_T e1 e2 d))) : wpY_lunarCount post (nI e1, nI e2, f_current, f_rowCount, ns_tb, a_firstDay, a_rowNames, a_times) p := by
  subst hp
  unfold wpY_lunarCount
  dsimp only
  refine yq_el H (pk_mul 60 d) (by omega) (by omega) ?_
  exact And.intro (by decide) (ek_v (nx_T H h2) h)
theorem yq_67 {post : Int32 → Prop} {J : Int32 → Int32 → Prop} (H : cl_ok e1 e2) {L s : Nat} (hL : L < 2 ^ 30) (hC : cl_C e1 e2 L < 115000000) (hs : 0 < s) (hs2 : s ≤ 600)
    (K : ∀ t : Nat, t < cl_C e1 e2 L → cl_C e1 e2 L ≤ t + s → 1000 ≤ t → J (nI t) (nI (s / 8))) :
    ∀ (m n t : Nat), m ≤ 12 → m < n → t < cl_C e1 e2 L → cl_C e1 e2 L ≤ t + m * s → 1000 ≤ t → wY_conjunction_67 post J (lN (43200 * L)) (nI s) (nI e1) (nI e2) f_current f_rowCount ns_tb a_firstDay a_rowNames a_times n (nI t) (nI (12 - m)) := by
  intro m
  induction m with
  | zero =>
    intro n t _ _ h1 h2 _
    rw [Nat.zero_mul] at h2
    omega
  | succ m ih =>
    intro n t hm hn h1 h2 h3
    obtain ⟨n, rfl⟩ : ∃ k, n = k + 1 := ⟨n - 1, by omega⟩
    rw [Nat.succ_mul] at h2
    have ed : nI s / 8 = nI (s / 8) := pk_div (d := 8) (by omega) (by decide) (by decide)
    refine br_f (nI_ge (a := 12 - (m + 1)) (b := 12) (by omega) (by decide)) (yq_el H (t := t + s) (nI_add _ _) (by omega) (by omega) ?_)
    have eb := (nx_eb H (t := t + s) (by omega)).1
    have e0 := cl_E0 H (t := t + s) (by omega)
    have g := cl_gc H L (t + s)
    refine ek_if (d := cl_C e1 e2 L ≤ t + s) ?_ (fun hc => ?_) (fun hc => ?_)
    · rw [pk_lLE (by omega) (by omega), g]
      omega
    · exact And.intro (by decide) (nm_r ed (K t h1 hc h3))
    · have cb := Nat.lt_of_not_le hc
      refine nm_r (nI_add _ _) (nm_r (e' := nI (12 - m)) ?_ (ih n (t + s) (by omega) (by omega) cb (by omega) (by omega)))
      rw [nI_1]
      exact congrArg nI (by omega)
theorem yq_59s {post : Int32 → Prop} (H : cl_ok e1 e2) {L n : Nat} (s r : Nat) (hL : L < 2 ^ 30) (hC : cl_C e1 e2 L < 115000000) (hs : 0 < s) (hs2 : s ≤ 600) (he : s / 8 = r)
    (K : ∀ t : Nat, t < cl_C e1 e2 L → cl_C e1 e2 L ≤ t + s → 1000 ≤ t → wY_conjunction_59 post (lN (43200 * L)) (nI e1) (nI e2) f_current f_rowCount ns_tb a_firstDay a_rowNames a_times n (nI t) (nI r)) {t : Nat} (h1 : t < cl_C e1 e2 L) (h2 : cl_C e1 e2 L ≤ t + 12 * s) (h3 : 1000 ≤ t) :
    wY_conjunction_59 post (lN (43200 * L)) (nI e1) (nI e2) f_current f_rowCount ns_tb a_firstDay a_rowNames a_times (n + 1) (nI t) (nI s) := by
  subst he
  exact br_f (nI_nle hs (by omega)) ⟨13, yq_67 H hL hC hs hs2 K 12 13 t (by omega) (by omega) h1 h2 h3⟩
theorem yq_59 {post : Int32 → Prop} (H : cl_ok e1 e2) {L : Nat} (hL : L < 2 ^ 30) (hC : cl_C e1 e2 L < 115000000) (hp : post (nI (cl_C e1 e2 L))) {t : Nat} (h1 : t < cl_C e1 e2 L) (h2 : cl_C e1 e2 L ≤ t + 7200) (h3 : 1000 ≤ t) :
    wY_conjunction_59 post (lN (43200 * L)) (nI e1) (nI e2) f_current f_rowCount ns_tb a_firstDay a_rowNames a_times 5 (nI t) 600 := by
  refine yq_59s H 600 75 hL hC (by decide) (by decide) (by decide) (fun t1 a1 b1 c1 => ?_) h1 (by omega) h3
  refine yq_59s H 75 9 hL hC (by decide) (by decide) (by decide) (fun t2 a2 b2 c2 => ?_) a1 (by omega) c1
  refine yq_59s H 9 1 hL hC (by decide) (by decide) (by decide) (fun t3 a3 b3 c3 => ?_) a2 (by omega) c2
  refine yq_59s H 1 0 hL hC (by decide) (by decide) (by decide) (fun t4 a4 b4 c4 => ?_) a3 (by omega) c3
  refine br_t (by decide) ?_
  rw [nI_1, show t4 + 1 = cl_C e1 e2 L by omega]
  exact hp
theorem yq_16 {post : Int32 → Prop} (H : cl_ok e1 e2) {L : Nat} (hL : L < 2 ^ 30) (hC : cl_C e1 e2 L < 115000000) (hC0 : 54600 < cl_C e1 e2 L) (hp : post (nI (cl_C e1 e2 L))) :
    ∀ (m n t : Nat), m ≤ 10 → m < n → t < cl_C e1 e2 L + 600 * m → cl_C e1 e2 L ≤ t + 7200 → wY_conjunction_16 post (lN (43200 * L)) (nI e1) (nI e2) f_current f_rowCount ns_tb a_firstDay a_rowNames a_times n (nI t) (nI (10 - m)) := by
  intro m
  induction m with
  | zero =>
    intro n t _ hn h1 h2
    obtain ⟨n, rfl⟩ : ∃ k, n = k + 1 := ⟨n - 1, by omega⟩
    exact br_t (by decide) ⟨5, yq_59 H hL hC hp (by omega) h2 (by omega)⟩
  | succ m ih =>
    intro n t hm hn h1 h2
    obtain ⟨n, rfl⟩ : ∃ k, n = k + 1 := ⟨n - 1, by omega⟩
    refine br_f (nI_ge (a := 10 - (m + 1)) (b := 10) (by omega) (by decide)) (pk_le t 54600 (fun h => ⟨5, yq_59 H hL hC hp (by omega) h2 (by omega)⟩) (fun h => yq_el H (t := t) rfl (by omega) (by omega) ?_))
    have eb := (nx_eb H (t := t) (by omega)).1
    have e0 := cl_E0 H (t := t) (by omega)
    have g := cl_gc H L t
    refine ek_if (d := ¬ cl_C e1 e2 L ≤ t) ?_ (fun hc => ?_) (fun hc => ?_)
    · rw [pk_lLT (by omega) (by omega), g]
      omega
    · exact ⟨5, yq_59 H hL hC hp (by omega) h2 (by omega)⟩
    · have cb : cl_C e1 e2 L ≤ t := by omega
      refine nm_r (e' := nI (t - 600)) ?_ (nm_r (e' := nI (10 - m)) ?_ (ih n (t - 600) (by omega) (by omega) (by omega) (by omega)))
      · rw [← Int32.sub_eq_add_neg]
        exact pk_sub (b := 600) (by omega)
      · rw [nI_1]
        exact congrArg nI (by omega)
theorem yq_cj {post : Int32 → Prop} (H : cl_ok e1 e2) {p q : Int32} {k d : Nat} (hp : p = nI k) (hq : q = nI d) (h1 : 30 ≤ k) (h2 : k ≤ 64500) (hd : d ≤ 1950000) (hc0 : 54600 < cl_C e1 e2 (30 * k)) (hc1 : 60 * d < cl_C e1 e2 (30 * k) + 6000) (hc2 : cl_C e1 e2 (30 * k) ≤ 60 * d + 7200)
    (h : post (nI (cl_C e1 e2 (30 * k)))) : wpY_conjunction post (nI e1, nI e2, f_current, f_rowCount, ns_tb, a_firstDay, a_rowNames, a_times) p q := by
  subst hp
  subst hq
  have cb := cl_Cb H (L := 30 * k) (by omega) (by omega)
  refine nm_r (e' := lN (43200 * (30 * k))) ?_ (nm_r (e' := nI (60 * d)) (pk_mul 60 d) ⟨11, yq_16 H (by omega) cb.2 hc0 h 10 11 (60 * d) (by omega) (by omega) (by omega) hc2⟩)
  rw [nI_l (by omega)]
  exact (lN_mul 1296000 k).trans (congrArg lN (by omega))
/-- a day within its lunation, in ticks -/
theorem cl_dk {e1 e2 : Nat} (H : cl_ok e1 e2) {d : Nat} (h1 : 900 ≤ d) (h2 : d ≤ 1901000) : cl_C e1 e2 (30 * cl_k e1 e2 d) ≤ 60 * d ∧ 60 * d < cl_C e1 e2 (30 * (cl_k e1 e2 d + 1)) ∧ cl_C e1 e2 (30 * (cl_k e1 e2 d + 1)) ≤ cl_C e1 e2 (30 * cl_k e1 e2 d) + 1901 := by
  have kb := cl_kb H h1 h2
  have a := (cl_kC H (d := d) (by omega) (cl_k e1 e2 d)).mp (Nat.le_refl _)
  have b := cl_kC H (d := d) (by omega) (cl_k e1 e2 d + 1)
  have l := cl_len1 H (k := cl_k e1 e2 d) (by omega)
  omega
theorem nx_k {d : Nat} (H : cl_ok e1 e2) (hd : d ≤ 2000000) : nI (cl_T e1 e2 d) / 30 = nI (cl_k e1 e2 d) := pk_div (d := 30) (by have := nx_Tb H hd; omega) (by decide) (by decide)
theorem yq_cjd {post : Int32 → Prop} (H : cl_ok e1 e2) {p q : Int32} {d a : Nat} (hp : p = nI (cl_k e1 e2 d + a)) (hq : q = nI d) (ha : a ≤ 1) (h1 : 950 ≤ d) (h2 : d ≤ 1900900) (h : post (nI (cl_C e1 e2 (30 * (cl_k e1 e2 d + a))))) : wpY_conjunction post (nI e1, nI e2, f_current, f_rowCount, ns_tb, a_firstDay, a_rowNames, a_times) p q := by
  have kb := cl_kb H (d := d) (by omega) (by omega)
  have dk := cl_dk H (d := d) (by omega) (by omega)
  have a2 : a = 0 ∨ a = 1 := by omega
  rcases a2 with rfl | rfl
  · rw [Nat.add_zero] at hp h
    exact yq_cj H hp hq (by omega) (by omega) (by omega) (by omega) (by omega) (by omega) h
  · exact yq_cj H hp hq (by omega) (by omega) (by omega) (by omega) (by omega) (by omega) h
theorem yq_sg {post : Int32 → Prop} (H : cl_ok e1 e2) {p q : Int32} {d a : Nat} (hp : p = nI d) (hq : q = nI a) (ha : a ≤ 1) (h1 : 950 ≤ d) (h2 : d ≤ 1900900) (h : post (nI (cl_z e1 e2 (cl_k e1 e2 d + a)))) : wpY_sign post (nI e1, nI e2, f_current, f_rowCount, ns_tb, a_firstDay, a_rowNames, a_times) p q := by
  subst hp
  subst hq
  have kb := cl_kb H (d := d) (by omega) (by omega)
  have cb := cl_Cb H (L := 30 * (cl_k e1 e2 d + a)) (by omega) (by omega)
  unfold wpY_sign
  dsimp only
  refine yq_lc H rfl (by omega) (by omega) ?_
  refine And.intro (by decide) (nm_r (e' := nI (cl_k e1 e2 d + a)) ?_ (yq_cjd H rfl rfl ha h1 h2 (yq_sun H rfl (by omega) (by omega) (And.intro (by decide) ?_))))
  · rw [nx_k H (by omega), nI_add]
  · exact ek_v (nx_z H (by omega)) h
theorem yq_yr {post : Int32 → Prop} (H : cl_ok e1 e2) {p : Int32} {d : Nat} (hp : p = nI d) (h1 : 950 ≤ d) (h2 : d ≤ 1900900) (h : post (nI ((cl_z e1 e2 (cl_k e1 e2 d) + 1) / 12))) : wpY_yearOf post (nI e1, nI e2, f_current, f_rowCount, ns_tb, a_firstDay, a_rowNames, a_times) p := by
  have kb := cl_kb H (d := d) (by omega) (by omega)
  have zb := cl_zb H (k := cl_k e1 e2 d) (by omega) (by omega)
  have e : nI (cl_z e1 e2 (cl_k e1 e2 d) + 1) / 12 = nI ((cl_z e1 e2 (cl_k e1 e2 d) + 1) / 12) := pk_div (d := 12) (by omega) (by decide) (by decide)
  unfold wpY_yearOf
  dsimp only
  refine yq_sg H (a := 0) hp rfl (by decide) h1 h2 ?_
  refine And.intro (by decide) ?_
  rw [Nat.add_zero, nI_1, e]
  exact h
theorem yq_mo {post : Int32 → Prop} (H : cl_ok e1 e2) {p : Int32} {d : Nat} (hp : p = nI d) (h1 : 950 ≤ d) (h2 : d ≤ 1900900) (h : post (nI ((cl_z e1 e2 (cl_k e1 e2 d) + 1) % 12 + 1))) : wpY_monthOf post (nI e1, nI e2, f_current, f_rowCount, ns_tb, a_firstDay, a_rowNames, a_times) p := by
  have kb := cl_kb H (d := d) (by omega) (by omega)
  have zb := cl_zb H (k := cl_k e1 e2 d) (by omega) (by omega)
  unfold wpY_monthOf
  dsimp only
  refine yq_sg H (a := 0) hp rfl (by decide) h1 h2 ?_
  rw [Nat.add_zero]
  exact And.intro (by decide) (ek_v (nx_mo (z := cl_z e1 e2 (cl_k e1 e2 d)) (by omega)) h)
theorem yq_lm {post : Int32 → Prop} (H : cl_ok e1 e2) {p : Int32} {d : Nat} (hp : p = nI d) (h1 : 950 ≤ d) (h2 : d ≤ 1900900) (h : post (nI (cl_lm e1 e2 (cl_k e1 e2 d)))) : wpY_leapMonth post (nI e1, nI e2, f_current, f_rowCount, ns_tb, a_firstDay, a_rowNames, a_times) p := by
  have kb := cl_kb H (d := d) (by omega) (by omega)
  have zb := cl_zb H (k := cl_k e1 e2 d) (by omega) (by omega)
  have zb2 := cl_zb H (k := cl_k e1 e2 d + 1) (by omega) (by omega)
  unfold cl_lm at h
  unfold wpY_leapMonth
  dsimp only
  refine yq_sg H (a := 1) hp rfl (by decide) h1 h2 ?_
  refine yq_sg H (a := 0) hp rfl (by decide) h1 h2 ?_
  rw [Nat.add_zero]
  refine pk_eq (cl_z e1 e2 (cl_k e1 e2 d + 1)) (cl_z e1 e2 (cl_k e1 e2 d)) (fun e => ?_) (fun e => ?_)
  · rw [if_pos e] at h
    exact h
  · rw [if_neg e] at h
    exact h
theorem yq_ld {post : Int32 → Prop} (H : cl_ok e1 e2) {p : Int32} {d : Nat} (hp : p = nI d) (h1 : 950 ≤ d) (h2 : d ≤ 1900900) (h : post (nI (cl_ld e1 e2 d))) : wpY_leapDay post (nI e1, nI e2, f_current, f_rowCount, ns_tb, a_firstDay, a_rowNames, a_times) p := by
  have b1 := nx_Tb H (d := d) (by omega)
  have b2 := nx_Tb H (d := d - 1) (by omega)
  unfold cl_ld at h
  unfold wpY_leapDay
  dsimp only
  refine yq_lc H hp (by omega) (by omega) ?_
  refine yq_lc H (d := d - 1) (by rw [hp]; exact pk_sub (b := 1) (by omega)) (by omega) (by omega) ?_
  refine pk_eq (cl_T e1 e2 d) (cl_T e1 e2 (d - 1)) (fun e => ?_) (fun e => ?_)
  · rw [if_pos e] at h
    exact h
  · rw [if_neg e] at h
    exact h
end
section
variable {f_sunEpicycle f_moonEpicycle f_current f_rowCount : Int32} {a_s a_firstDay a_rowNames a_times : Nat → Int32}
theorem yq_gs {post : Int32 → Prop} {p q : Int32} {y m : Nat} (hp : p = nI y) (hq : q = nI m) (h1 : y ≤ 5200) (h2 : m ≤ 12) (h3 : 2 ≤ 12 * y + m) (h : post (nI (cl_g (12 * y + m - 2)))) : wpY_guess post (f_sunEpicycle, f_moonEpicycle, f_current, f_rowCount, a_s, a_firstDay, a_rowNames, a_times) p q := by
  subst hp
  subst hq
  have k1 : 12 * lN y = lN (12 * y) := lN_mul 12 y
  have k2 : lN (12 * y + m) - 2 = lN (12 * y + m - 2) := lN_sub (b := 2) h3
  have k8 : lN (12 * y + m - 2) * 1577917828 = lN ((12 * y + m - 2) * 1577917828) := lN_mul _ 1577917828
  have k9 : lN ((12 * y + m - 2) * 1577917828) / 51840000 = lN (cl_g (12 * y + m - 2)) := pk_lDiv (b := 51840000) (by omega) (by decide) (by decide)
  refine nm_r (e' := lN (12 * y + m - 2)) ?_ (And.intro (by decide) ?_)
  · rw [nI_l (by omega), nI_l (by omega), k1, lN_add, k2]
  · rw [k8, k9, lN_i]
    exact h
end
end
section
/-! ranges, goDay and goName: each side against the picture -/
theorem rl_rng (x : Int32) (a b : Nat) (hb : b < 2 ^ 31) (ha : a < 2 ^ 31) : (x < nI a ∨ nI b < x) ∨ ∃ d : Nat, a ≤ d ∧ d ≤ b ∧ x = nI d ∧ ¬ x < nI a ∧ ¬ nI b < x := by
  by_cases h : x < nI a
  · exact Or.inl (Or.inl h)
  by_cases h2 : nI b < x
  · exact Or.inl (Or.inr h2)
  refine Or.inr ?_
  have h0 : ¬ x < 0 := by
    rw [Int32.lt_iff_toInt_lt] at h ⊢
    rw [nI_toInt ha] at h
    have z : (0 : Int32).toInt = 0 := by decide
    omega
  obtain ⟨d, hd, rfl⟩ := nI_of h0
  rw [nI_ltI hd ha] at h
  rw [nI_ltI hb hd] at h2
  exact ⟨d, by omega, by omega, rfl, by rw [nI_ltI hd ha]; omega, by rw [nI_ltI hb hd]; omega⟩
theorem rl_o1 {p a b : Int32} {A B : Prop} (h : p < a ∨ b < p) (hA : A) : (p < a → A) ∧ (¬ p < a → ((b < p → A) ∧ (¬ b < p → B))) :=
  ⟨fun _ => hA, fun h1 => ⟨fun _ => hA, fun h2 => absurd h (fun z => z.elim h1 h2)⟩⟩
theorem rl_i1 {p a b : Int32} {A B : Prop} (h1 : ¬ p < a) (h2 : ¬ b < p) (hB : B) : (p < a → A) ∧ (¬ p < a → ((b < p → A) ∧ (¬ b < p → B))) := br_f h1 (br_f h2 hB)
theorem rl_o2 {p a b : Int32} {A B : Prop} (h : p < a ∨ b < p) (hA : A) : (p < a → A) ∧ (¬ p < a → ((p ≤ b → B) ∧ (¬ p ≤ b → A))) :=
  ⟨fun _ => hA, fun h1 => ⟨fun h2 => absurd h (fun z => z.elim h1 (Int32.not_lt.mpr h2)), fun _ => hA⟩⟩
theorem rl_i2 {p a b : Int32} {A B : Prop} (h1 : ¬ p < a) (h2 : ¬ b < p) (hB : B) : (p < a → A) ∧ (¬ p < a → ((p ≤ b → B) ∧ (¬ p ≤ b → A))) := br_f h1 (br_t (Int32.not_lt.mp h2) hB)
theorem nx_r30 {L : Nat} (hL : L < 2 ^ 30) : (nI L - nI L / 30 * 30) + 1 = nI (L % 30 + 1) := by
  have e : nI L - nI L / 30 * 30 = nI (L % 30) := pk_rem (d := 30) (by omega) (by decide) (by decide)
  rw [e, nI_1]
section
variable {f_leastDay f_greatestDay f_leastYear f_greatestYear f_sunTurns f_moonTurns f_anomalyTurns f_mostRows f_leapMark f_sunEpicycle f_moonEpicycle f_currentDay f_currentYear f_currentMonth f_currentLunarDay f_currentFlags f_rowCount : Int32} {a_sine a_lunations a_names a_conjunctions a_firstDays a_lengths a_monthRows : Nat → Int32}
theorem xq_w0 {post : Int32 → Prop} {p a b : Int32} (h : p < a ∨ b < p) (hp : post 0) : wpX_within post (f_leastDay, f_greatestDay, f_leastYear, f_greatestYear, f_sunTurns, f_moonTurns, f_anomalyTurns, f_mostRows, f_leapMark, f_sunEpicycle, f_moonEpicycle, f_currentDay, f_currentYear, f_currentMonth, f_currentLunarDay, f_currentFlags, f_rowCount, a_sine, a_lunations, a_names, a_conjunctions, a_firstDays, a_lengths, a_monthRows) p a b := rl_o1 h hp
theorem xq_w1 {post : Int32 → Prop} {p a b : Int32} (h1 : ¬ p < a) (h2 : ¬ b < p) (hp : post 1) : wpX_within post (f_leastDay, f_greatestDay, f_leastYear, f_greatestYear, f_sunTurns, f_moonTurns, f_anomalyTurns, f_mostRows, f_leapMark, f_sunEpicycle, f_moonEpicycle, f_currentDay, f_currentYear, f_currentMonth, f_currentLunarDay, f_currentFlags, f_rowCount, a_sine, a_lunations, a_names, a_conjunctions, a_firstDays, a_lengths, a_monthRows) p a b := rl_i1 h1 h2 hp
theorem xq_sc {post : SX → Prop} {p0 p3 : Int32} {z L : Nat} (hz : z < 2 ^ 30) (hL : L < 2 ^ 30) (h : post (f_leastDay, f_greatestDay, f_leastYear, f_greatestYear, f_sunTurns, f_moonTurns, f_anomalyTurns, f_mostRows, f_leapMark, f_sunEpicycle, f_moonEpicycle, p0, nI ((z + 1) / 12), nI ((z + 1) % 12 + 1), nI (L % 30 + 1), p3, f_rowCount, a_sine, a_lunations, a_names, a_conjunctions, a_firstDays, a_lengths, a_monthRows)) : wpX_setCurrent post (f_leastDay, f_greatestDay, f_leastYear, f_greatestYear, f_sunTurns, f_moonTurns, f_anomalyTurns, f_mostRows, f_leapMark, f_sunEpicycle, f_moonEpicycle, f_currentDay, f_currentYear, f_currentMonth, f_currentLunarDay, f_currentFlags, f_rowCount, a_sine, a_lunations, a_names, a_conjunctions, a_firstDays, a_lengths, a_monthRows) p0 (nI z) (nI L) p3 := by
  unfold wpX_setCurrent
  dsimp only
  refine xq_yo hz ?_
  refine xq_mo hz ?_
  exact And.intro (by decide) (nm_r (nx_r30 hL) h)
end
section
variable {e1 e2 : Nat}
variable {f_leastDay f_greatestDay f_leastYear f_greatestYear f_sunTurns f_moonTurns f_anomalyTurns f_mostRows f_leapMark f_sunEpicycle f_moonEpicycle f_currentDay f_currentYear f_currentMonth f_currentLunarDay f_currentFlags f_rowCount : Int32} {a_sine a_lunations a_names a_conjunctions a_firstDays a_lengths a_monthRows : Nat → Int32}
theorem xq_g87 {post : Int32 → SX → Prop} {p0 p3 : Int32} {z L : Nat} (hz : z < 2 ^ 30) (hL : L < 2 ^ 30) (h : post 1 (f_leastDay, f_greatestDay, f_leastYear, f_greatestYear, f_sunTurns, f_moonTurns, f_anomalyTurns, f_mostRows, f_leapMark, f_sunEpicycle, f_moonEpicycle, p0, nI ((z + 1) / 12), nI ((z + 1) % 12 + 1), nI (L % 30 + 1), p3, f_rowCount, a_sine, a_lunations, a_names, a_conjunctions, a_firstDays, a_lengths, a_monthRows)) : wX_goDay_87 post p0 (nI L) (nI z) p3 f_leastDay f_greatestDay f_leastYear f_greatestYear f_sunTurns f_moonTurns f_anomalyTurns f_mostRows f_leapMark f_sunEpicycle f_moonEpicycle f_currentDay f_currentYear f_currentMonth f_currentLunarDay f_currentFlags f_rowCount a_sine a_lunations a_names a_conjunctions a_firstDays a_lengths a_monthRows := by
  unfold wX_goDay_87
  exact xq_sc hz hL h
theorem xq_g70 {post : Int32 → SX → Prop} (H : cl_ok e1 e2) {d f z : Nat} (h1 : 1000 ≤ d) (h2 : d ≤ 1900000) (hz : z < 2 ^ 30)
    (h : post 1 (f_leastDay, f_greatestDay, f_leastYear, f_greatestYear, f_sunTurns, f_moonTurns, f_anomalyTurns, f_mostRows, f_leapMark, nI e1, nI e2, nI d, nI ((z + 1) / 12), nI ((z + 1) % 12 + 1), nI (cl_T e1 e2 d % 30 + 1), nI (f + 2 * cl_ld e1 e2 d), f_rowCount, ns_tb, a_lunations, a_names, a_conjunctions, a_firstDays, a_lengths, a_monthRows)) : wX_goDay_70 post (nI d) (nI (cl_T e1 e2 d)) (nI z) (nI f) f_leastDay f_greatestDay f_leastYear f_greatestYear f_sunTurns f_moonTurns f_anomalyTurns f_mostRows f_leapMark (nI e1) (nI e2) f_currentDay f_currentYear f_currentMonth f_currentLunarDay f_currentFlags f_rowCount ns_tb a_lunations a_names a_conjunctions a_firstDays a_lengths a_monthRows := by
  have b1 := nx_Tb H (d := d) (by omega)
  have b2 := nx_Tb H (d := d - 1) (by omega)
  unfold wX_goDay_70
  refine xq_lc H (d := d - 1) (pk_sub (b := 1) (by omega)) (by omega) (by omega) ?_
  unfold cl_ld at h
  refine pk_eq (cl_T e1 e2 (d - 1)) (cl_T e1 e2 d) (fun e => ?_) (fun e => ?_)
  · rw [if_pos e.symm] at h
    exact nm_r (nI_add f 2) (xq_g87 hz b1 h)
  · rw [if_neg (fun z => e z.symm), Nat.mul_zero, Nat.add_zero] at h
    exact xq_g87 hz b1 h
theorem xq_goDay {post : Int32 → SX → Prop} (H : cl_ok e1 e2) {d : Nat} (h1 : 1000 ≤ d) (h2 : d ≤ 1900000)
    (h0 : ¬ (4 ≤ (cl_z e1 e2 (cl_k e1 e2 d) + 1) / 12 ∧ (cl_z e1 e2 (cl_k e1 e2 d) + 1) / 12 ≤ 5200) → post 0 (f_leastDay, f_greatestDay, f_leastYear, f_greatestYear, f_sunTurns, f_moonTurns, f_anomalyTurns, f_mostRows, f_leapMark, nI e1, nI e2, f_currentDay, f_currentYear, f_currentMonth, f_currentLunarDay, f_currentFlags, f_rowCount, ns_tb, a_lunations, a_names, a_conjunctions, a_firstDays, a_lengths, a_monthRows))
    (h : 4 ≤ (cl_z e1 e2 (cl_k e1 e2 d) + 1) / 12 → (cl_z e1 e2 (cl_k e1 e2 d) + 1) / 12 ≤ 5200 → post 1 (f_leastDay, f_greatestDay, f_leastYear, f_greatestYear, f_sunTurns, f_moonTurns, f_anomalyTurns, f_mostRows, f_leapMark, nI e1, nI e2, nI d, nI ((cl_z e1 e2 (cl_k e1 e2 d) + 1) / 12), nI ((cl_z e1 e2 (cl_k e1 e2 d) + 1) % 12 + 1), nI (cl_T e1 e2 d % 30 + 1), nI (cl_lm e1 e2 (cl_k e1 e2 d) + 2 * cl_ld e1 e2 d), f_rowCount, ns_tb, a_lunations, a_names, a_conjunctions, a_firstDays, a_lengths, a_monthRows)) : wpX_goDay post (f_leastDay, f_greatestDay, f_leastYear, f_greatestYear, f_sunTurns, f_moonTurns, f_anomalyTurns, f_mostRows, f_leapMark, nI e1, nI e2, f_currentDay, f_currentYear, f_currentMonth, f_currentLunarDay, f_currentFlags, f_rowCount, ns_tb, a_lunations, a_names, a_conjunctions, a_firstDays, a_lengths, a_monthRows) (nI d) := by
  have kb := cl_kb H (d := d) (by omega) (by omega)
  have zb := cl_zb H (k := cl_k e1 e2 d) (by omega) (by omega)
  have zb2 := cl_zb H (k := cl_k e1 e2 d + 1) (by omega) (by omega)
  unfold wpX_goDay
  dsimp only
  refine xq_w1 (nI_nlt (b := 1000) h1 (by omega)) (nI_nlt (a := 1900000) h2 (by decide)) ?_
  refine br_f (by decide) (xq_lc H rfl (by omega) (by omega) ?_)
  refine And.intro (by decide) (nm_r (nx_k H (by omega)) ?_)
  refine xq_os H rfl (by omega) (by omega) ?_
  refine xq_yo (by omega) ?_
  by_cases hy : 4 ≤ (cl_z e1 e2 (cl_k e1 e2 d) + 1) / 12 ∧ (cl_z e1 e2 (cl_k e1 e2 d) + 1) / 12 ≤ 5200
  · refine xq_w1 (nI_nlt (b := 4) hy.1 (by omega)) (nI_nlt (a := 5200) hy.2 (by decide)) ?_
    refine br_f (by decide) (xq_os H (nI_1 _) (by omega) (by omega) ?_)
    have h9 := h hy.1 hy.2
    unfold cl_lm at h9
    refine pk_eq (cl_z e1 e2 (cl_k e1 e2 d + 1)) (cl_z e1 e2 (cl_k e1 e2 d)) (fun e => ?_) (fun e => ?_)
    · rw [if_pos e] at h9
      exact xq_g70 H (f := 1) h1 h2 (by omega) h9
    · rw [if_neg e] at h9
      exact xq_g70 H (f := 0) h1 h2 (by omega) h9
  · refine xq_w0 ?_ (br_t rfl (h0 hy))
    by_cases h4 : 4 ≤ (cl_z e1 e2 (cl_k e1 e2 d) + 1) / 12
    · exact Or.inr (nI_lt (a := 5200) (by omega) (by omega))
    · exact Or.inl (nI_lt (b := 4) (by omega) (by decide))

/-! goName, the component -/
theorem xq_f43 {post : Int32 → Prop} {J : Int32 → Int32 → Int32 → Prop} {s lp k z i w zn : Nat} (hs : s < 2 ^ 30) (hz : z < 2 ^ 30) (hw : w ≤ 1) (hlp : lp ≤ 1) (A : z = s → w = lp → post (nI k)) (B : ¬ (z = s ∧ w = lp) → J (nI (k + 1)) (nI zn) (nI (i + 1))) : wX_findLunation_43 post J (nI s) (nI lp) (nI k) (nI z) (nI i) (nI zn) (nI w) f_leastDay f_greatestDay f_leastYear f_greatestYear f_sunTurns f_moonTurns f_anomalyTurns f_mostRows f_leapMark f_sunEpicycle f_moonEpicycle f_currentDay f_currentYear f_currentMonth f_currentLunarDay f_currentFlags f_rowCount a_sine a_lunations a_names a_conjunctions a_firstDays a_lengths a_monthRows := by
  refine pk_eq z s (fun a => pk_eq w lp (fun b => A a b) (fun b => ?_)) (fun a => ?_)
  · exact nm_r (nI_1 k) (nm_r (nI_1 i) (B (fun q => b q.2)))
  · exact nm_r (nI_1 k) (nm_r (nI_1 i) (B (fun q => a q.1)))
theorem xq_f16 {post : Int32 → Prop} (H : cl_ok e1 e2) {s lp : Nat} (hs : s < 2 ^ 30) (hlp : lp ≤ 1) : ∀ (m n k : Nat), m ≤ 4 → m < n → 30 ≤ k → k + m ≤ 64450 →
    (∀ l, k ≤ l → l < k + m → cl_z e1 e2 l = s → cl_lm e1 e2 l = lp → post (nI l)) → ((∀ l, k ≤ l → l < k + m → ¬ (cl_z e1 e2 l = s ∧ cl_lm e1 e2 l = lp)) → post (-1)) →
    wX_findLunation_16 post (nI s) (nI lp) f_leastDay f_greatestDay f_leastYear f_greatestYear f_sunTurns f_moonTurns f_anomalyTurns f_mostRows f_leapMark (nI e1) (nI e2) f_currentDay f_currentYear f_currentMonth f_currentLunarDay f_currentFlags f_rowCount ns_tb a_lunations a_names a_conjunctions a_firstDays a_lengths a_monthRows n (nI k) (nI (cl_z e1 e2 k)) (nI (4 - m)) := by
  intro m
  induction m with
  | zero =>
    intro n k _ hn _ _ _ B
    obtain ⟨n, rfl⟩ : ∃ j, n = j + 1 := ⟨n - 1, by omega⟩
    exact br_t (by decide) (B (fun l a b => by omega))
  | succ m ih =>
    intro n k hm hn h1 h2 A B
    obtain ⟨n, rfl⟩ : ∃ j, n = j + 1 := ⟨n - 1, by omega⟩
    have zb := cl_zb H (k := k) (by omega) (by omega)
    have zb2 := cl_zb H (k := k + 1) (by omega) (by omega)
    refine br_f (nI_ge (a := 4 - (m + 1)) (b := 4) (by omega) (by decide)) (xq_os H (nI_1 k) (by omega) (by omega) ?_)
    have W : ∀ w : Nat, w = cl_lm e1 e2 k → w ≤ 1 → wX_findLunation_43 post (wX_findLunation_16 post (nI s) (nI lp) f_leastDay f_greatestDay f_leastYear f_greatestYear f_sunTurns f_moonTurns f_anomalyTurns f_mostRows f_leapMark (nI e1) (nI e2) f_currentDay f_currentYear f_currentMonth f_currentLunarDay f_currentFlags f_rowCount ns_tb a_lunations a_names a_conjunctions a_firstDays a_lengths a_monthRows n) (nI s) (nI lp) (nI k) (nI (cl_z e1 e2 k)) (nI (4 - (m + 1))) (nI (cl_z e1 e2 (k + 1))) (nI w) f_leastDay f_greatestDay f_leastYear f_greatestYear f_sunTurns f_moonTurns f_anomalyTurns f_mostRows f_leapMark (nI e1) (nI e2) f_currentDay f_currentYear f_currentMonth f_currentLunarDay f_currentFlags f_rowCount ns_tb a_lunations a_names a_conjunctions a_firstDays a_lengths a_monthRows := by
      intro w hw hw1
      refine xq_f43 hs (by omega) hw1 hlp (fun a b => A k (by omega) (by omega) a (by rw [← hw]; exact b)) (fun q => ?_)
      rw [show 4 - (m + 1) + 1 = 4 - m by omega]
      rw [hw] at q
      refine ih n (k + 1) (by omega) (by omega) (by omega) (by omega) (fun l a b => A l (by omega) (by omega)) (fun hq => B (fun l a b => ?_))
      by_cases e : l = k
      · rw [e]; exact q
      · exact hq l (by omega) (by omega)
    refine pk_eq (cl_z e1 e2 (k + 1)) (cl_z e1 e2 k) (fun e => ?_) (fun e => ?_)
    · exact W 1 (by unfold cl_lm; rw [if_pos e]) (by decide)
    · exact W 0 (by unfold cl_lm; rw [if_neg e]) (by decide)
theorem xq_fl {post : Int32 → Prop} (H : cl_ok e1 e2) {s lp : Nat} (hs : 47 ≤ s) (hs2 : s ≤ 62420) (hlp : lp ≤ 1) {p q : Int32} (hp : p = nI s) (hq : q = nI lp)
    (A : ∀ l, 30 ≤ l → l ≤ 64410 → cl_z e1 e2 l = s → cl_lm e1 e2 l = lp → post (nI l)) (B : (∀ l, cl_k e1 e2 (cl_g s - 8) ≤ l → l < cl_k e1 e2 (cl_g s - 8) + 4 → ¬ (cl_z e1 e2 l = s ∧ cl_lm e1 e2 l = lp)) → post (-1)) : wpX_findLunation post (f_leastDay, f_greatestDay, f_leastYear, f_greatestYear, f_sunTurns, f_moonTurns, f_anomalyTurns, f_mostRows, f_leapMark, nI e1, nI e2, f_currentDay, f_currentYear, f_currentMonth, f_currentLunarDay, f_currentFlags, f_rowCount, ns_tb, a_lunations, a_names, a_conjunctions, a_firstDays, a_lengths, a_monthRows) p q := by
  subst hp
  subst hq
  have hg : 1430 ≤ cl_g s ∧ cl_g s ≤ 1900900 := by unfold cl_g; omega
  have kb := cl_kb H (d := cl_g s - 8) (by omega) (by omega)
  unfold wpX_findLunation
  dsimp only
  refine xq_lb H rfl hs (by omega) ?_
  refine xq_os H rfl (by omega) (by omega) ?_
  exact ⟨5, xq_f16 H (by omega) hlp 4 5 _ (by omega) (by omega) (by omega) (by omega) (fun l a b => A l (by omega) (by omega)) B⟩
theorem xq_n75 {post : Int32 → SX → Prop} (H : cl_ok e1 e2) {s ld fl : Nat} (hs : 47 ≤ s) (hs2 : s ≤ 62420) (hld1 : 1 ≤ ld) (hld : ld ≤ 30) (hfl : fl ≤ 3) {q : Int32} (hq : q = nI (fl % 2))
    (A : ∀ l, 30 ≤ l → l ≤ 64410 → cl_z e1 e2 l = s → cl_lm e1 e2 l = fl % 2 → cl_O e1 e2 (30 * l + ld - 1) + fl / 2 < cl_O e1 e2 (30 * l + ld) → post 1 (f_leastDay, f_greatestDay, f_leastYear, f_greatestYear, f_sunTurns, f_moonTurns, f_anomalyTurns, f_mostRows, f_leapMark, nI e1, nI e2, nI (cl_O e1 e2 (30 * l + ld - 1) + fl / 2), nI ((s + 1) / 12), nI ((s + 1) % 12 + 1), nI ((30 * l + ld - 1) % 30 + 1), nI fl, f_rowCount, ns_tb, a_lunations, a_names, a_conjunctions, a_firstDays, a_lengths, a_monthRows))
    (A2 : ∀ l, 30 ≤ l → l ≤ 64410 → cl_z e1 e2 l = s → cl_lm e1 e2 l = fl % 2 → ¬ cl_O e1 e2 (30 * l + ld - 1) + fl / 2 < cl_O e1 e2 (30 * l + ld) → post 3 (f_leastDay, f_greatestDay, f_leastYear, f_greatestYear, f_sunTurns, f_moonTurns, f_anomalyTurns, f_mostRows, f_leapMark, nI e1, nI e2, f_currentDay, f_currentYear, f_currentMonth, f_currentLunarDay, f_currentFlags, f_rowCount, ns_tb, a_lunations, a_names, a_conjunctions, a_firstDays, a_lengths, a_monthRows))
    (B : (∀ l, cl_k e1 e2 (cl_g s - 8) ≤ l → l < cl_k e1 e2 (cl_g s - 8) + 4 → ¬ (cl_z e1 e2 l = s ∧ cl_lm e1 e2 l = fl % 2)) → post 2 (f_leastDay, f_greatestDay, f_leastYear, f_greatestYear, f_sunTurns, f_moonTurns, f_anomalyTurns, f_mostRows, f_leapMark, nI e1, nI e2, f_currentDay, f_currentYear, f_currentMonth, f_currentLunarDay, f_currentFlags, f_rowCount, ns_tb, a_lunations, a_names, a_conjunctions, a_firstDays, a_lengths, a_monthRows)) : wX_goName_75 post (nI ld) (nI fl) (nI s) q (nI s) f_leastDay f_greatestDay f_leastYear f_greatestYear f_sunTurns f_moonTurns f_anomalyTurns f_mostRows f_leapMark (nI e1) (nI e2) f_currentDay f_currentYear f_currentMonth f_currentLunarDay f_currentFlags f_rowCount ns_tb a_lunations a_names a_conjunctions a_firstDays a_lengths a_monthRows := by
  unfold wX_goName_75
  refine xq_fl H hs hs2 (by omega) rfl hq (fun l h1 h2 hz hl => ?_) (fun hB => ?_)
  · have cb := cl_Cb H (L := 30 * l + ld - 1) (by omega) (by omega)
    have cb2 := cl_Cb H (L := 30 * l + ld) (by omega) (by omega)
    have ob : cl_O e1 e2 (30 * l + ld - 1) < 2000000 ∧ cl_O e1 e2 (30 * l + ld) < 2000000 := by unfold cl_O; omega
    have k1 : 30 * nI l = nI (30 * l) := pk_mul 30 l
    have k2 : nI (30 * l + ld) - 1 = nI (30 * l + ld - 1) := pk_sub (b := 1) (by omega)
    have k3 : nI (30 * l + ld - 1) + 1 = nI (30 * l + ld) := by
      rw [nI_1]
      exact congrArg nI (by omega)
    have k4 : nI fl / 2 = nI (fl / 2) := pk_div (d := 2) (by omega) (by decide) (by decide)
    refine br_t (nI_pos' (by omega)) (nm_r (e' := nI (30 * l + ld - 1)) (by rw [k1, nI_add, k2]) (xq_od H rfl (by omega) (by omega) ?_))
    refine And.intro (by decide) (nm_r (e' := nI (cl_O e1 e2 (30 * l + ld - 1) + fl / 2)) (by rw [k4, nI_add]) (xq_od H k3 (by omega) (by omega) ?_))
    refine pk_lt (cl_O e1 e2 (30 * l + ld - 1) + fl / 2) (cl_O e1 e2 (30 * l + ld)) (fun h => ?_) (fun h => A2 l h1 h2 hz hl (by omega))
    exact xq_sc (by omega) (by omega) (A l h1 h2 hz hl h)
  · exact br_f (by decide) (B hB)
theorem xq_goName {post : Int32 → SX → Prop} (H : cl_ok e1 e2) {y mo ld fl : Nat} (hy : 4 ≤ y) (hy2 : y ≤ 5200) (hm1 : 1 ≤ mo) (hm : mo ≤ 12) (hld1 : 1 ≤ ld) (hld : ld ≤ 30) (hfl : fl ≤ 3)
    (A : ∀ l, 30 ≤ l → l ≤ 64410 → cl_z e1 e2 l = 12 * y + mo - 2 → cl_lm e1 e2 l = fl % 2 → cl_O e1 e2 (30 * l + ld - 1) + fl / 2 < cl_O e1 e2 (30 * l + ld) → post 1 (f_leastDay, f_greatestDay, f_leastYear, f_greatestYear, f_sunTurns, f_moonTurns, f_anomalyTurns, f_mostRows, f_leapMark, nI e1, nI e2, nI (cl_O e1 e2 (30 * l + ld - 1) + fl / 2), nI ((12 * y + mo - 2 + 1) / 12), nI ((12 * y + mo - 2 + 1) % 12 + 1), nI ((30 * l + ld - 1) % 30 + 1), nI fl, f_rowCount, ns_tb, a_lunations, a_names, a_conjunctions, a_firstDays, a_lengths, a_monthRows))
    (A2 : ∀ l, 30 ≤ l → l ≤ 64410 → cl_z e1 e2 l = 12 * y + mo - 2 → cl_lm e1 e2 l = fl % 2 → ¬ cl_O e1 e2 (30 * l + ld - 1) + fl / 2 < cl_O e1 e2 (30 * l + ld) → post 3 (f_leastDay, f_greatestDay, f_leastYear, f_greatestYear, f_sunTurns, f_moonTurns, f_anomalyTurns, f_mostRows, f_leapMark, nI e1, nI e2, f_currentDay, f_currentYear, f_currentMonth, f_currentLunarDay, f_currentFlags, f_rowCount, ns_tb, a_lunations, a_names, a_conjunctions, a_firstDays, a_lengths, a_monthRows))
    (B : (∀ l, cl_k e1 e2 (cl_g (12 * y + mo - 2) - 8) ≤ l → l < cl_k e1 e2 (cl_g (12 * y + mo - 2) - 8) + 4 → ¬ (cl_z e1 e2 l = 12 * y + mo - 2 ∧ cl_lm e1 e2 l = fl % 2)) → post 2 (f_leastDay, f_greatestDay, f_leastYear, f_greatestYear, f_sunTurns, f_moonTurns, f_anomalyTurns, f_mostRows, f_leapMark, nI e1, nI e2, f_currentDay, f_currentYear, f_currentMonth, f_currentLunarDay, f_currentFlags, f_rowCount, ns_tb, a_lunations, a_names, a_conjunctions, a_firstDays, a_lengths, a_monthRows)) : wpX_goName post (f_leastDay, f_greatestDay, f_leastYear, f_greatestYear, f_sunTurns, f_moonTurns, f_anomalyTurns, f_mostRows, f_leapMark, nI e1, nI e2, f_currentDay, f_currentYear, f_currentMonth, f_currentLunarDay, f_currentFlags, f_rowCount, ns_tb, a_lunations, a_names, a_conjunctions, a_firstDays, a_lengths, a_monthRows) (nI y) (nI mo) (nI ld) (nI fl) := by
  have k1 : 12 * nI y = nI (12 * y) := pk_mul 12 y
  have k2 : nI (12 * y + mo) - 2 = nI (12 * y + mo - 2) := pk_sub (b := 2) (by omega)
  have k3 : nI fl - nI fl / 2 * 2 = nI (fl % 2) := pk_rem (d := 2) (by omega) (by decide) (by decide)
  unfold wpX_goName
  dsimp only
  refine xq_w1 (nI_nlt (b := 4) hy (by omega)) (nI_nlt (a := 5200) hy2 (by decide)) (br_f (by decide) ?_)
  refine xq_w1 (nI_nlt (b := 1) hm1 (by omega)) (nI_nlt (a := 12) hm (by decide)) (br_f (by decide) ?_)
  refine xq_w1 (nI_nlt (b := 1) hld1 (by omega)) (nI_nlt (a := 30) hld (by decide)) (br_f (by decide) ?_)
  refine xq_w1 (nI_nlt (b := 0) (Nat.zero_le _) (by omega)) (nI_nlt (a := 3) hfl (by decide)) (br_f (by decide) ?_)
  refine nm_r (e' := nI (12 * y + mo - 2)) (by rw [k1, nI_add, k2]) (And.intro (by decide) (pk_eq (fl % 2) 1 (fun h => ?_) (fun h => ?_) k3))
  · exact xq_n75 H (by omega) (by omega) hld1 hld hfl (congrArg nI h.symm) A A2 B
  · exact xq_n75 H (by omega) (by omega) hld1 hld hfl (congrArg nI (show 0 = fl % 2 by omega)) A A2 B
end

/-! goName, the reference -/
def yn_M (e1 e2 s lp l : Nat) : Prop := cl_z e1 e2 l = s ∧ cl_lm e1 e2 l = lp
def yn_Q (e1 e2 s ld fl d : Nat) : Prop := yn_M e1 e2 s (fl % 2) (cl_k e1 e2 d) ∧ cl_T e1 e2 d % 30 + 1 = ld ∧ cl_ld e1 e2 d = fl / 2
def yn_F (e1 e2 s fl fo d b : Nat) : Prop := fo = 1 ∨ ∃ x, d ≤ x ∧ x ≤ b ∧ yn_M e1 e2 s (fl % 2) (cl_k e1 e2 x)
theorem nx_nm1 {k : Nat} (hk : k < 2 ^ 30) : ¬ (-1 : Int32) = nI k := by
  intro e
  have a := nI_pos (n := k) (by omega)
  rw [← e] at a
  exact a (by decide)
section
variable {e1 e2 : Nat}
variable {f_sunEpicycle f_moonEpicycle f_current f_rowCount : Int32} {a_s a_firstDay a_rowNames a_times : Nat → Int32}
theorem yq_148 {post : Int32 → SY → Prop} {J : Int32 → Int32 → Int32 → Int32 → Prop} (H : cl_ok e1 e2) {ld fl fo sm d : Nat} {x1 x2 x5 x7 : Int32} (h1 : 950 ≤ d) (h2 : d ≤ 1900900) (hld : ld ≤ 30) (hfl : fl ≤ 3) (hsm : sm ≤ 1)
    (A : sm = 1 → cl_T e1 e2 d % 30 + 1 = ld → cl_ld e1 e2 d = fl / 2 → post 1 (nI e1, nI e2, nI d, f_rowCount, ns_tb, a_firstDay, a_rowNames, a_times))
    (B : ¬ (sm = 1 ∧ cl_T e1 e2 d % 30 + 1 = ld ∧ cl_ld e1 e2 d = fl / 2) → J (nI (if sm = 1 then 1 else fo)) x7 (nI sm) (nI (d + 1))) :
    wY_goName_148 post J x1 x2 (nI ld) (nI fl) x5 (nI fo) x7 (nI sm) (nI d) (nI (cl_T e1 e2 d)) (nI e1) (nI e2) f_current f_rowCount ns_tb a_firstDay a_rowNames a_times := by
  have tb := nx_Tb H (d := d) (by omega)
  have lb : cl_ld e1 e2 d ≤ 1 := by unfold cl_ld; split <;> omega
  have c : sm = 0 ∨ sm = 1 := by omega
  rcases c with rfl | rfl
  · rw [if_neg (by decide)] at B
    exact br_t (by decide) (br_t (by decide) (nm_r (nI_1 d) (B (fun q => absurd q.1 (by decide)))))
  · rw [if_pos rfl] at B
    refine br_f (by decide) (br_f (by decide) (And.intro (by decide) (pk_eq (cl_T e1 e2 d % 30 + 1) ld (fun a => ?_) (fun a => ?_) (nx_r30 tb))))
    · refine yq_ld H rfl h1 h2 (And.intro (by decide) (pk_eq (cl_ld e1 e2 d) (fl / 2) (fun b => A rfl a b) (fun b => ?_) rfl (pk_div (d := 2) (by omega) (by decide) (by decide))))
      exact nm_r (nI_1 d) (B (fun q => b q.2.2))
    · exact nm_r (nI_1 d) (B (fun q => a q.2.1))
theorem yq_73 {post : Int32 → SY → Prop} (H : cl_ok e1 e2) {y mo ld fl s g : Nat} (hy : y ≤ 5200) (hm1 : 1 ≤ mo) (hm : mo ≤ 12) (hsy : s + 2 = 12 * y + mo) (hld : ld ≤ 30) (hfl : fl ≤ 3) (hg : g ≤ 1900700) : ∀ (m n d fo sm : Nat) (x7 : Int32), d + m = g + 81 → m < n → 950 ≤ d → fo ≤ 1 → sm ≤ 1 →
    (∀ k : Nat, k < 2 ^ 30 → x7 = nI k → (sm = 1 ↔ yn_M e1 e2 s (fl % 2) k)) →
    (∀ x, d ≤ x → x ≤ g + 80 → yn_Q e1 e2 s ld fl x → (∀ w, d ≤ w → w < x → ¬ yn_Q e1 e2 s ld fl w) → post 1 (nI e1, nI e2, nI x, f_rowCount, ns_tb, a_firstDay, a_rowNames, a_times)) →
    ((∀ x, d ≤ x → x ≤ g + 80 → ¬ yn_Q e1 e2 s ld fl x) → yn_F e1 e2 s fl fo d (g + 80) → post 3 (nI e1, nI e2, f_current, f_rowCount, ns_tb, a_firstDay, a_rowNames, a_times)) →
    ((∀ x, d ≤ x → x ≤ g + 80 → ¬ yn_Q e1 e2 s ld fl x) → ¬ yn_F e1 e2 s fl fo d (g + 80) → post 2 (nI e1, nI e2, f_current, f_rowCount, ns_tb, a_firstDay, a_rowNames, a_times)) →
    wY_goName_73 post (nI y) (nI mo) (nI ld) (nI fl) (nI g) (nI e1) (nI e2) f_current f_rowCount ns_tb a_firstDay a_rowNames a_times n (nI fo) x7 (nI sm) (nI d) := by
  have k80 : nI g + 80 = nI (g + 80) := nI_add g 80
  intro m
  induction m with
  | zero =>
    intro n d fo sm x7 hd hn h1 hfo hsm hs A B C
    obtain ⟨n, rfl⟩ : ∃ j, n = j + 1 := ⟨n - 1, by omega⟩
    refine br_t (by rw [k80]; exact nI_lt (by omega) (by omega)) (pk_eq fo 0 (fun e => ?_) (fun e => ?_))
    · refine C (fun x a b => by omega) ?_
      intro z
      rcases z with z | ⟨x, a, b, _⟩
      · omega
      · omega
    · exact B (fun x a b => by omega) (Or.inl (by omega))
  | succ m ih =>
    intro n d fo sm x7 hd hn h1 hfo hsm hs A B C
    obtain ⟨n, rfl⟩ : ∃ j, n = j + 1 := ⟨n - 1, by omega⟩
    have kb := cl_kb H (d := d) (by omega) (by omega)
    have zb := cl_zb H (k := cl_k e1 e2 d) (by omega) (by omega)
    refine br_f (by rw [k80]; exact nI_nlt (by omega) (by omega)) (yq_lc H rfl (by omega) (by omega) ?_)
    have W : ∀ (sn : Nat), sn ≤ 1 → (sn = 1 ↔ yn_M e1 e2 s (fl % 2) (cl_k e1 e2 d)) →
        wY_goName_148 post (wY_goName_73 post (nI y) (nI mo) (nI ld) (nI fl) (nI g) (nI e1) (nI e2) f_current f_rowCount ns_tb a_firstDay a_rowNames a_times n) (nI y) (nI mo) (nI ld) (nI fl) (nI g) (nI fo) (nI (cl_k e1 e2 d)) (nI sn) (nI d) (nI (cl_T e1 e2 d)) (nI e1) (nI e2) f_current f_rowCount ns_tb a_firstDay a_rowNames a_times := by
      intro sn hsn hM
      refine yq_148 H h1 (by omega) hld hfl hsn (fun a b c => A d (Nat.le_refl _) (by omega) ⟨hM.mp a, b, c⟩ (fun w a1 a2 => by omega)) (fun nq => ?_)
      have nQ : ¬ yn_Q e1 e2 s ld fl d := fun q => nq ⟨hM.mpr q.1, q.2.1, q.2.2⟩
      have all : (∀ x, d + 1 ≤ x → x ≤ g + 80 → ¬ yn_Q e1 e2 s ld fl x) → ∀ x, d ≤ x → x ≤ g + 80 → ¬ yn_Q e1 e2 s ld fl x := by
        intro hq x a b
        by_cases e : x = d
        · rw [e]; exact nQ
        · exact hq x (by omega) b
      have fF : yn_F e1 e2 s fl (if sn = 1 then 1 else fo) (d + 1) (g + 80) ↔ yn_F e1 e2 s fl fo d (g + 80) := by
        constructor
        · intro z
          rcases z with z | ⟨x, a, b, c⟩
          · by_cases e : sn = 1
            · exact Or.inr ⟨d, Nat.le_refl _, by omega, hM.mp e⟩
            · rw [if_neg e] at z; exact Or.inl z
          · exact Or.inr ⟨x, by omega, b, c⟩
        · intro z
          by_cases e : sn = 1
          · exact Or.inl (if_pos e)
          · rcases z with z | ⟨x, a, b, c⟩
            · exact Or.inl (by rw [if_neg e]; exact z)
            · by_cases ex : x = d
              · rw [ex] at c
                exact absurd (hM.mpr c) e
              · exact Or.inr ⟨x, by omega, b, c⟩
      refine ih n (d + 1) (if sn = 1 then 1 else fo) sn (nI (cl_k e1 e2 d)) (by omega) (by omega) (by omega) (by split <;> omega) hsn ?_ ?_ ?_ ?_
      · intro k hk ek
        rw [nI_eq (by omega) (by omega)] at ek
        rw [← ek]
        exact hM
      · intro x a b q hf
        refine A x (by omega) b q (fun w a1 a2 => ?_)
        by_cases e : w = d
        · rw [e]; exact nQ
        · exact hf w (by omega) a2
      · intro hq z
        exact B (all hq) (fF.mp z)
      · intro hq z
        exact C (all hq) (fun q => z (fF.mpr q))
    have ek := nx_k H (d := d) (by omega)
    refine And.intro (by decide) (br_c (fun e => ?_) (fun e => ?_))
    · rw [ek] at e
      subst e
      exact W sm hsm (hs _ (by omega) rfl)
    · refine And.intro (by decide) (nm_r ek (yq_yr H rfl h1 (by omega) ?_))
      have F0 : ¬ yn_M e1 e2 s (fl % 2) (cl_k e1 e2 d) → wY_goName_148 post (wY_goName_73 post (nI y) (nI mo) (nI ld) (nI fl) (nI g) (nI e1) (nI e2) f_current f_rowCount ns_tb a_firstDay a_rowNames a_times n) (nI y) (nI mo) (nI ld) (nI fl) (nI g) (nI fo) (nI (cl_k e1 e2 d)) (nI 0) (nI d) (nI (cl_T e1 e2 d)) (nI e1) (nI e2) f_current f_rowCount ns_tb a_firstDay a_rowNames a_times :=
        fun nm => W 0 (by decide) ⟨fun z => absurd z (by decide), fun z => absurd z nm⟩
      refine pk_eq ((cl_z e1 e2 (cl_k e1 e2 d) + 1) / 12) y (fun ey => ?_) (fun ey => ?_)
      · refine yq_mo H rfl h1 (by omega) (pk_eq ((cl_z e1 e2 (cl_k e1 e2 d) + 1) % 12 + 1) mo (fun em => ?_) (fun em => ?_))
        · have lb : cl_lm e1 e2 (cl_k e1 e2 d) ≤ 1 := by unfold cl_lm; split <;> omega
          refine yq_lm H rfl h1 (by omega) (And.intro (by decide) (pk_eq (cl_lm e1 e2 (cl_k e1 e2 d)) (fl % 2) (fun el => ?_) (fun el => ?_) rfl (pk_rem (d := 2) (by omega) (by decide) (by decide))))
          · exact W 1 (by decide) ⟨fun _ => ⟨by omega, el⟩, fun _ => rfl⟩
          · exact F0 (fun z => el z.2)
        · exact F0 (fun z => em (by have := z.1; omega))
      · exact F0 (fun z => ey (by have := z.1; omega))
end
end
section
/-! a year's lunations; rows of the almanac: pure -/
theorem cl_gb (s : Nat) : 12960000 * cl_g s ≤ 394479457 * s ∧ 394479457 * s < 12960000 * cl_g s + 12960000 := by
  unfold cl_g
  omega
theorem cl_n5 {e1 e2 : Nat} (H : cl_ok e1 e2) {k s g B j : Nat} (hk : 30 ≤ k) (hk2 : k ≤ 64500) (hg : 12960000 * g ≤ 394479457 * s) (h : cl_C e1 e2 (30 * k) ≤ 60 * g + B) (hB : 23328000000 * B + 394479457 * 16056 < 42603781356000 * j) : cl_z e1 e2 k < s + j := by
  by_cases c : s + j ≤ cl_z e1 e2 k
  · rw [cl_zI H hk hk2] at c
    have m := ns_sunm H.1 h
    have b := (ns_sunb H.1 (60 * g + B)).1
    generalize ns_sun e1 (cl_C e1 e2 (30 * k)) = x at *
    generalize ns_sun e1 (60 * g + B) = y at *
    omega
  · omega
theorem cl_first {e1 e2 : Nat} (H : cl_ok e1 e2) {s b : Nat} (hb : s ≤ cl_z e1 e2 b) : ∃ k, k ≤ b ∧ ∀ l, s ≤ cl_z e1 e2 l ↔ k ≤ l := by
  obtain ⟨k, hk, hl⟩ := pk_least (fun l => s ≤ cl_z e1 e2 l) ⟨b, hb⟩
  have mb : ∀ l, s ≤ cl_z e1 e2 l ↔ k ≤ l := by
    intro l
    constructor
    · intro h
      by_cases c : k ≤ l
      · exact c
      · exact absurd h (hl l (by omega))
    · intro h
      exact Nat.le_trans hk (cl_zm H h)
  exact ⟨k, (mb b).mp hb, mb⟩
theorem yr_ex {e1 e2 : Nat} (H : cl_ok e1 e2) {y : Nat} (hy : 4 ≤ y) (hy2 : y ≤ 5200) : ∃ k1 k2 : Nat, (∀ k, (cl_z e1 e2 k + 1) / 12 = y ↔ k1 ≤ k ∧ k < k2) ∧ cl_k e1 e2 (cl_g (12 * y - 1) - 8) < k1 ∧ k1 < k2 ∧ k2 ≤ k1 + 13 ∧ k2 ≤ cl_k e1 e2 (cl_g (12 * y - 1) - 8) + 16 ∧ cl_g (12 * y - 1) - 8 < cl_O e1 e2 (30 * k1) ∧ cl_O e1 e2 (30 * (k2 - 1)) ≤ cl_g (12 * y - 1) + 420 := by
  have gb := cl_gb (12 * y - 1)
  generalize hs : 12 * y - 1 = s at *
  generalize cl_g s = g at *
  have hg : 1430 ≤ g ∧ g ≤ 1900900 := by omega
  have kb := cl_kb H (d := g - 8) (by omega) (by omega)
  have q0 := (cl_kO H (d := g - 8) (by omega) (cl_k e1 e2 (g - 8))).mp (Nat.le_refl _)
  have q1 : ¬ cl_O e1 e2 (30 * (cl_k e1 e2 (g - 8) + 1)) ≤ g - 8 := by
    rw [← cl_kO H (by omega)]
    omega
  have qk := cl_kO H (d := g - 8) (by omega)
  generalize cl_k e1 e2 (g - 8) = k0 at *
  have z0 := cl_n1 H (k := k0) (by omega) (by omega) gb.1 (by omega) q0
  have z16 := cl_n2 H (k := k0 + 1) (n := 15) (j := 12) (by omega) (by omega) gb.2 (by omega) q1 (by omega)
  have z2 := cl_n2 H (k := k0 + 1) (n := 1) (j := 0) (by omega) (by omega) gb.2 (by omega) q1 (by omega)
  have z3 : cl_z e1 e2 (k0 + 1 + 1) < s + 12 := by
    refine cl_n5 H (B := 3900) (by omega) (by omega) gb.1 ?_ (by omega)
    rw [← cl_CO] at q0
    have l := cl_len H (k := k0) (by omega) 2
    rw [show k0 + 1 + 1 = k0 + 2 by omega]
    generalize cl_C e1 e2 (30 * (k0 + 2)) = c2 at *
    generalize cl_C e1 e2 (30 * k0) = c0 at *
    omega
  obtain ⟨k1, hk1, f1⟩ := cl_first H (s := s) (b := k0 + 1 + 1) (by omega)
  obtain ⟨k2, hk2, f2⟩ := cl_first H (s := s + 12) (b := k0 + 1 + 15) z16
  have a0 : ¬ k1 ≤ k0 := by rw [← f1]; omega
  have a2 : ¬ k2 ≤ k0 + 1 + 1 := by rw [← f2]; omega
  have n13 := cl_n3 H (k := k1) (n := 13) (j := 12) (by omega) (by omega) (by omega)
  have a1 := (f1 k1).mpr (Nat.le_refl _)
  have a13 : k2 ≤ k1 + 13 := (f2 (k1 + 13)).mp (by omega)
  have a4 : cl_z e1 e2 (k2 - 1) < s + 12 := by
    have := f2 (k2 - 1)
    omega
  have c4 := cl_n4 H (k := k2 - 1) (j := 12) (by omega) (by omega) gb.2 a4
  refine ⟨k1, k2, fun k => ?_, by omega, by omega, a13, by omega, ?_, ?_⟩
  · have b1 := f1 k
    have b2 := f2 k
    omega
  · have := qk k1
    omega
  · rw [← cl_CO]
    omega
theorem cl_km {e1 e2 : Nat} (H : cl_ok e1 e2) {c d : Nat} (hc : 17 ≤ c) (h : c ≤ d) : cl_k e1 e2 c ≤ cl_k e1 e2 d := by
  rw [cl_kO H (by omega)]
  exact Nat.le_trans ((cl_kO H hc _).mp (Nat.le_refl _)) h
theorem cl_dstep {e1 e2 : Nat} (H : cl_ok e1 e2) {d : Nat} (h1 : 951 ≤ d) (h2 : d ≤ 1900900) (hne : ¬ cl_k e1 e2 d = cl_k e1 e2 (d - 1)) : cl_k e1 e2 d = cl_k e1 e2 (d - 1) + 1 ∧ cl_O e1 e2 (30 * cl_k e1 e2 d) = d ∧ cl_k e1 e2 (d + 20) = cl_k e1 e2 d := by
  have kb := cl_kb H (d := d - 1) (by omega) (by omega)
  have m := cl_km H (c := d - 1) (d := d) (by omega) (by omega)
  have a := cl_kO H (d := d - 1) (by omega) (cl_k e1 e2 (d - 1) + 1)
  have b := cl_kO H (d := d) (by omega) (cl_k e1 e2 (d - 1) + 1)
  have b2 := cl_kO H (d := d) (by omega) (cl_k e1 e2 (d - 1) + 1 + 1)
  have c := cl_kO H (d := d + 20) (by omega) (cl_k e1 e2 (d - 1) + 1)
  have c2 := cl_kO H (d := d + 20) (by omega) (cl_k e1 e2 (d - 1) + 1 + 1)
  have l := cl_lenO H (k := cl_k e1 e2 (d - 1) + 1) (by omega)
  have e : cl_k e1 e2 d = cl_k e1 e2 (d - 1) + 1 := by omega
  rw [e]
  omega
noncomputable def cl_mo (e1 e2 k : Nat) : Nat := (cl_z e1 e2 k + 1) % 12 + 1
noncomputable def cl_nm (e1 e2 k : Nat) : Nat := cl_mo e1 e2 k + 16 * cl_lm e1 e2 k
theorem cl_lm1 (e1 e2 k : Nat) : cl_lm e1 e2 k ≤ 1 := by
  unfold cl_lm
  split <;> omega
theorem cl_mob (e1 e2 k : Nat) : 1 ≤ cl_mo e1 e2 k ∧ cl_mo e1 e2 k ≤ 12 := by
  unfold cl_mo
  omega
noncomputable def rw_n (e1 e2 k1 m : Nat) : Nat → Nat
  | 0 => 0
  | n + 1 => rw_n e1 e2 k1 m n + (if cl_mo e1 e2 (k1 + n) = m then 1 else 0)
theorem rw_nb (e1 e2 k1 m : Nat) : ∀ n, rw_n e1 e2 k1 m n ≤ n := by
  intro n
  induction n with
  | zero => exact Nat.le_refl _
  | succ n ih =>
    rw [rw_n]
    split <;> omega
def rw_X (e1 e2 k1 n : Nat) (al an ac af ae am : Nat → Int32) : Prop :=
  (∀ i, i < n → al i = nI (k1 + i) ∧ an i = nI (cl_nm e1 e2 (k1 + i)) ∧ ac i = nI (cl_C e1 e2 (30 * (k1 + i))) ∧ af i = nI (cl_O e1 e2 (30 * (k1 + i))) ∧ ae i = nI (cl_O e1 e2 (30 * (k1 + i + 1)) - cl_O e1 e2 (30 * (k1 + i)))) ∧
  (∀ m, m < 13 → am m = nI (rw_n e1 e2 k1 m n))
def rw_Y (e1 e2 k1 n : Nat) (af ar : Nat → Int32) : Prop :=
  ∀ i, i < n → af i = nI (cl_O e1 e2 (30 * (k1 + i))) ∧ ar i = nI (cl_nm e1 e2 (k1 + i))
theorem rw_X0 {e1 e2 k1 : Nat} {al an ac af ae am : Nat → Int32} (h : ∀ j, j < 13 → am j = 0) : rw_X e1 e2 k1 0 al an ac af ae am :=
  ⟨fun i hi => absurd hi (by omega), fun m hm => h m hm⟩
theorem rw_Xa {e1 e2 k1 n k : Nat} {al an ac af ae am : Nat → Int32} (hk : k = k1 + n) (h : rw_X e1 e2 k1 n al an ac af ae am) :
    rw_X e1 e2 k1 (n + 1) (upd al n (nI k)) (upd an n (nI (cl_mo e1 e2 k + 16 * cl_lm e1 e2 k))) (upd ac n (nI (cl_C e1 e2 (30 * k)))) (upd af n (nI (cl_O e1 e2 (30 * k)))) (upd ae n (nI (cl_O e1 e2 (30 * (k + 1)) - cl_O e1 e2 (30 * k)))) (upd am (cl_mo e1 e2 k) (am (cl_mo e1 e2 k) + 1)) := by
  subst hk
  refine ⟨fun i hi => ?_, fun m hm => ?_⟩
  · by_cases e : i = n
    · subst e
      rw [pk_us, pk_us, pk_us, pk_us, pk_us]
      exact ⟨rfl, rfl, rfl, rfl, rfl⟩
    · rw [pk_un e, pk_un e, pk_un e, pk_un e, pk_un e]
      exact h.1 i (by omega)
  · rw [rw_n]
    by_cases e : m = cl_mo e1 e2 (k1 + n)
    · subst e
      rw [pk_us, if_pos rfl, h.2 _ hm, nI_1]
    · rw [pk_un e, if_neg (fun z => e z.symm), h.2 _ hm, Nat.add_zero]
theorem rw_Ya {e1 e2 k1 n k : Nat} {af ar : Nat → Int32} (hk : k = k1 + n) (h : rw_Y e1 e2 k1 n af ar) : rw_Y e1 e2 k1 (n + 1) (upd af n (nI (cl_O e1 e2 (30 * k)))) (upd ar n (nI (cl_nm e1 e2 k))) := by
  subst hk
  intro i hi
  by_cases e : i = n
  · subst e
    rw [pk_us, pk_us]
    exact ⟨rfl, rfl⟩
  · rw [pk_un e, pk_un e]
    exact h i (by omega)
/-- the kind of a year -/
def rw_P6 (e1 e2 k1 n : Nat) : Prop := ∃ m, 1 ≤ m ∧ m ≤ 12 ∧ rw_n e1 e2 k1 m n = 0
def rw_P5 (e1 e2 k1 n : Nat) : Prop := ∃ i, i < n ∧ cl_lm e1 e2 (k1 + i) = 1
def rw_K (e1 e2 k1 n : Nat) (r : Int32) : Prop := (rw_P6 e1 e2 k1 n → r = 6) ∧ (¬ rw_P6 e1 e2 k1 n → rw_P5 e1 e2 k1 n → r = 5) ∧ (¬ rw_P6 e1 e2 k1 n → ¬ rw_P5 e1 e2 k1 n → r = 4)
theorem rw_Ke (e1 e2 k1 n : Nat) : ∃ r : Int32, rw_K e1 e2 k1 n r := by
  by_cases h6 : rw_P6 e1 e2 k1 n
  · exact ⟨6, fun _ => rfl, fun z => absurd h6 z, fun z => absurd h6 z⟩
  by_cases h5 : rw_P5 e1 e2 k1 n
  · exact ⟨5, fun z => absurd z h6, fun _ _ => rfl, fun _ z => absurd h5 z⟩
  · exact ⟨4, fun z => absurd z h6, fun _ z => absurd z h5, fun _ _ => rfl⟩
end
section
/-! build, the component -/
section
variable {f_leastDay f_greatestDay f_leastYear f_greatestYear f_sunTurns f_moonTurns f_anomalyTurns f_mostRows f_leapMark f_sunEpicycle f_moonEpicycle f_currentDay f_currentYear f_currentMonth f_currentLunarDay f_currentFlags f_rowCount : Int32} {a_sine a_lunations a_names a_conjunctions a_firstDays a_lengths a_monthRows : Nat → Int32}
theorem xq_c7 {post : SX → Prop} : ∀ (m n i : Nat) (am : Nat → Int32), i + m = 13 → m < n → (∀ j, j < i → am j = 0) → (∀ b : Nat → Int32, (∀ j, j < 13 → b j = 0) → post (f_leastDay, f_greatestDay, f_leastYear, f_greatestYear, f_sunTurns, f_moonTurns, f_anomalyTurns, f_mostRows, f_leapMark, f_sunEpicycle, f_moonEpicycle, f_currentDay, f_currentYear, f_currentMonth, f_currentLunarDay, f_currentFlags, f_rowCount, a_sine, a_lunations, a_names, a_conjunctions, a_firstDays, a_lengths, b)) → wX_clearAlmanac_7 post f_leastDay f_greatestDay f_leastYear f_greatestYear f_sunTurns f_moonTurns f_anomalyTurns f_mostRows f_leapMark f_sunEpicycle f_moonEpicycle f_currentDay f_currentYear f_currentMonth f_currentLunarDay f_currentFlags f_rowCount n (nI i) a_sine a_lunations a_names a_conjunctions a_firstDays a_lengths am := by
  intro m
  induction m with
  | zero =>
    intro n i am hi hn hz K
    obtain ⟨n, rfl⟩ : ∃ j, n = j + 1 := ⟨n - 1, by omega⟩
    have e : i = 13 := by omega
    subst e
    exact br_t (by decide) (K am hz)
  | succ m ih =>
    intro n i am hi hn hz K
    obtain ⟨n, rfl⟩ : ∃ j, n = j + 1 := ⟨n - 1, by omega⟩
    refine br_f (nI_ge (b := 13) (by omega) (by decide)) (And.intro (pk_in i 13 (by omega)) (nm_r (e' := upd am i 0) (by rw [nI_clamp (by omega)]) (nm_r (nI_1 i) (ih n (i + 1) _ (by omega) (by omega) (fun j hj => ?_) K))))
    by_cases e : j = i
    · subst e; exact pk_us
    · rw [pk_un e]; exact hz j (by omega)
theorem xq_clear {post : SX → Prop} (K : ∀ b : Nat → Int32, (∀ j, j < 13 → b j = 0) → post (f_leastDay, f_greatestDay, f_leastYear, f_greatestYear, f_sunTurns, f_moonTurns, f_anomalyTurns, f_mostRows, f_leapMark, f_sunEpicycle, f_moonEpicycle, f_currentDay, f_currentYear, f_currentMonth, f_currentLunarDay, f_currentFlags, 0, a_sine, a_lunations, a_names, a_conjunctions, a_firstDays, a_lengths, b)) : wpX_clearAlmanac post (f_leastDay, f_greatestDay, f_leastYear, f_greatestYear, f_sunTurns, f_moonTurns, f_anomalyTurns, f_mostRows, f_leapMark, f_sunEpicycle, f_moonEpicycle, f_currentDay, f_currentYear, f_currentMonth, f_currentLunarDay, f_currentFlags, f_rowCount, a_sine, a_lunations, a_names, a_conjunctions, a_firstDays, a_lengths, a_monthRows) :=
  ⟨14, xq_c7 13 14 0 a_monthRows (by omega) (by omega) (fun j hj => absurd hj (by omega)) K⟩
theorem xq_61 {post : SX → Prop} {n c c2 mo nm : Nat} (hn : n < 13) (hm : mo < 13) (hc2 : c2 < 2 ^ 30) (hcc : c ≤ c2)
    (h : post (f_leastDay, f_greatestDay, f_leastYear, f_greatestYear, f_sunTurns, f_moonTurns, f_anomalyTurns, f_mostRows, f_leapMark, f_sunEpicycle, f_moonEpicycle, f_currentDay, f_currentYear, f_currentMonth, f_currentLunarDay, f_currentFlags, nI (n + 1), a_sine, a_lunations, upd a_names n (nI nm), upd a_conjunctions n (nI c), upd a_firstDays n (nI ((c + 59) / 60)), upd a_lengths n (nI ((c2 + 59) / 60 - (c + 59) / 60)), upd a_monthRows mo (a_monthRows mo + 1))) :
    wX_addRow_61 post (nI c) (nI c2) (nI mo) (nI ((c + 59) / 60)) (nI nm) (nI n) f_leastDay f_greatestDay f_leastYear f_greatestYear f_sunTurns f_moonTurns f_anomalyTurns f_mostRows f_leapMark f_sunEpicycle f_moonEpicycle f_currentDay f_currentYear f_currentMonth f_currentLunarDay f_currentFlags (nI n) a_sine a_lunations a_names a_conjunctions a_firstDays a_lengths a_monthRows := by
  have hcl : (nI n).toNatClampNeg = n := nI_clamp (by omega)
  have hcm : (nI mo).toNatClampNeg = mo := nI_clamp (by omega)
  have hin : vp_in (nI n) 13 := pk_in n 13 hn
  have him : vp_in (nI mo) 13 := pk_in mo 13 hm
  refine And.intro hin (nm_r (e' := upd a_names n (nI nm)) (by rw [hcl]) ?_)
  refine And.intro hin (nm_r (e' := upd a_conjunctions n (nI c)) (by rw [hcl]) ?_)
  refine And.intro hin (nm_r (e' := upd a_firstDays n (nI ((c + 59) / 60))) (by rw [hcl]) ?_)
  refine xq_sr rfl hc2 ?_
  refine And.intro hin (nm_r (e' := upd a_lengths n (nI ((c2 + 59) / 60 - (c + 59) / 60))) (by rw [hcl, pk_sub (by omega)]) ?_)
  refine And.intro him (And.intro him (nm_r (e' := upd a_monthRows mo (a_monthRows mo + 1)) (by rw [hcm]) ?_))
  exact nm_r (nI_1 n) h
theorem xq_add {post : SX → Prop} {n k z lp c c2 : Nat} (hn : n < 13) (hz : z < 2 ^ 30) (hlp : lp ≤ 1) (hc2 : c2 < 2 ^ 30) (hcc : c ≤ c2)
    (h : post (f_leastDay, f_greatestDay, f_leastYear, f_greatestYear, f_sunTurns, f_moonTurns, f_anomalyTurns, f_mostRows, f_leapMark, f_sunEpicycle, f_moonEpicycle, f_currentDay, f_currentYear, f_currentMonth, f_currentLunarDay, f_currentFlags, nI (n + 1), a_sine, upd a_lunations n (nI k), upd a_names n (nI ((z + 1) % 12 + 1 + 16 * lp)), upd a_conjunctions n (nI c), upd a_firstDays n (nI ((c + 59) / 60)), upd a_lengths n (nI ((c2 + 59) / 60 - (c + 59) / 60)), upd a_monthRows ((z + 1) % 12 + 1) (a_monthRows ((z + 1) % 12 + 1) + 1))) :
    wpX_addRow post (f_leastDay, f_greatestDay, f_leastYear, f_greatestYear, f_sunTurns, f_moonTurns, f_anomalyTurns, f_mostRows, f_leapMark, f_sunEpicycle, f_moonEpicycle, f_currentDay, f_currentYear, f_currentMonth, f_currentLunarDay, f_currentFlags, nI n, a_sine, a_lunations, a_names, a_conjunctions, a_firstDays, a_lengths, a_monthRows) (nI k) (nI z) (nI lp) (nI c) (nI c2) := by
  have hcl : (nI n).toNatClampNeg = n := nI_clamp (by omega)
  refine br_f (nI_ge (b := 13) hn (by decide)) (br_t (nI_pos' (by omega)) ?_)
  refine xq_mo hz ?_
  refine xq_sr rfl (by omega) ?_
  refine And.intro (pk_in n 13 hn) (nm_r (e' := upd a_lunations n (nI k)) (by rw [hcl]) ?_)
  refine pk_eq lp 0 (fun e => ?_) (fun e => ?_)
  · subst e
    exact xq_61 hn (by omega) hc2 hcc h
  · have e1 : lp = 1 := by omega
    subst e1
    have k : nI ((z + 1) % 12 + 1) + 16 = nI ((z + 1) % 12 + 1 + 16) := nI_add _ 16
    rw [k]
    exact xq_61 hn (by omega) hc2 hcc h
theorem xq_k28 {post : Int32 → Prop} {e1 e2 k1 N : Nat} {r : Int32} (hN : N ≤ 13) (hr : rw_K e1 e2 k1 N r) (hp : post r) (h6 : ¬ rw_P6 e1 e2 k1 N) (hn : ∀ i, i < N → a_names i = nI (cl_nm e1 e2 (k1 + i))) :
    ∀ (m n i : Nat), i + m = N → m < n → (∀ j, j < i → cl_lm e1 e2 (k1 + j) = 0) → wX_kindOfYear_28 post f_leastDay f_greatestDay f_leastYear f_greatestYear f_sunTurns f_moonTurns f_anomalyTurns f_mostRows f_leapMark f_sunEpicycle f_moonEpicycle f_currentDay f_currentYear f_currentMonth f_currentLunarDay f_currentFlags (nI N) a_sine a_lunations a_names a_conjunctions a_firstDays a_lengths a_monthRows n (nI i) := by
  intro m
  induction m with
  | zero =>
    intro n i hi hf hz
    obtain ⟨n, rfl⟩ : ∃ j, n = j + 1 := ⟨n - 1, by omega⟩
    refine br_t (nI_le (by omega) (by omega)) ?_
    have h5 : ¬ rw_P5 e1 e2 k1 N := by
      intro z
      obtain ⟨j, hj, ej⟩ := z
      have := hz j (by omega)
      omega
    rw [hr.2.2 h6 h5] at hp
    exact hp
  | succ m ih =>
    intro n i hi hf hz
    obtain ⟨n, rfl⟩ : ∃ j, n = j + 1 := ⟨n - 1, by omega⟩
    have mb := cl_mob e1 e2 (k1 + i)
    have lb := cl_lm1 e1 e2 (k1 + i)
    have nb : cl_nm e1 e2 (k1 + i) = cl_mo e1 e2 (k1 + i) + 16 * cl_lm e1 e2 (k1 + i) := rfl
    have en : a_names (nI i).toNatClampNeg = nI (cl_nm e1 e2 (k1 + i)) := by
      rw [nI_clamp (by omega)]
      exact hn i (by omega)
    refine br_f (nI_ge (by omega) (by omega)) (br_f (nI_ge (b := 13) (by omega) (by decide)) (And.intro (pk_in i 13 (by omega)) (pk_le (cl_nm e1 e2 (k1 + i)) 16 (fun h => ?_) (fun h => ?_) en)))
    · refine nm_r (nI_1 i) (ih n (i + 1) (by omega) (by omega) (fun j hj => ?_))
      by_cases e : j = i
      · rw [e]; omega
      · exact hz j (by omega)
    · rw [hr.2.1 h6 ⟨i, by omega, by omega⟩] at hp
      exact hp
theorem xq_k2 {post : Int32 → Prop} {e1 e2 k1 N : Nat} {r : Int32} (hN : N ≤ 13) (hr : rw_K e1 e2 k1 N r) (hp : post r) (hn : ∀ i, i < N → a_names i = nI (cl_nm e1 e2 (k1 + i))) (hm : ∀ m, m < 13 → a_monthRows m = nI (rw_n e1 e2 k1 m N)) :
    ∀ (m n i : Nat), i + m = 13 → 1 ≤ i → m < n → (∀ j, 1 ≤ j → j < i → ¬ rw_n e1 e2 k1 j N = 0) → wX_kindOfYear_2 post f_leastDay f_greatestDay f_leastYear f_greatestYear f_sunTurns f_moonTurns f_anomalyTurns f_mostRows f_leapMark f_sunEpicycle f_moonEpicycle f_currentDay f_currentYear f_currentMonth f_currentLunarDay f_currentFlags (nI N) a_sine a_lunations a_names a_conjunctions a_firstDays a_lengths a_monthRows n (nI i) := by
  intro m
  induction m with
  | zero =>
    intro n i hi h1 hf hz
    obtain ⟨n, rfl⟩ : ∃ j, n = j + 1 := ⟨n - 1, by omega⟩
    have h6 : ¬ rw_P6 e1 e2 k1 N := by
      intro z
      obtain ⟨j, hj, hj2, ej⟩ := z
      exact hz j hj (by omega) ej
    exact br_t (nI_lt (a := 12) (by omega) (by omega)) ⟨N + 1, xq_k28 hN hr hp h6 hn N (N + 1) 0 (by omega) (by omega) (fun j hj => absurd hj (by omega))⟩
  | succ m ih =>
    intro n i hi h1 hf hz
    obtain ⟨n, rfl⟩ : ∃ j, n = j + 1 := ⟨n - 1, by omega⟩
    have nb := rw_nb e1 e2 k1 i N
    have en : a_monthRows (nI i).toNatClampNeg = nI (rw_n e1 e2 k1 i N) := by
      rw [nI_clamp (by omega)]
      exact hm i (by omega)
    refine br_f (nI_nlt (a := 12) (by omega) (by decide)) (And.intro (pk_in i 13 (by omega)) (pk_eq (rw_n e1 e2 k1 i N) 0 (fun h => ?_) (fun h => ?_) en))
    · rw [hr.1 ⟨i, h1, by omega, h⟩] at hp
      exact hp
    · refine nm_r (nI_1 i) (ih n (i + 1) (by omega) (by omega) (by omega) (fun j hj hj2 => ?_))
      by_cases e : j = i
      · rw [e]; exact h
      · exact hz j hj (by omega)
theorem xq_kind {post : Int32 → Prop} {e1 e2 k1 N : Nat} {r : Int32} {al an ac af ae am : Nat → Int32} (hN : N ≤ 13) (hr : rw_K e1 e2 k1 N r) (h : rw_X e1 e2 k1 N al an ac af ae am) (hp : post r) : wpX_kindOfYear post (f_leastDay, f_greatestDay, f_leastYear, f_greatestYear, f_sunTurns, f_moonTurns, f_anomalyTurns, f_mostRows, f_leapMark, f_sunEpicycle, f_moonEpicycle, f_currentDay, f_currentYear, f_currentMonth, f_currentLunarDay, f_currentFlags, nI N, a_sine, al, an, ac, af, ae, am) :=
  ⟨13, xq_k2 hN hr hp (fun i hi => (h.1 i hi).2.1) h.2 12 13 1 (by omega) (by omega) (by omega) (fun j hj hj2 => absurd hj2 (by omega))⟩
end
section
variable {e1 e2 : Nat}
variable {f_leastDay f_greatestDay f_leastYear f_greatestYear f_sunTurns f_moonTurns f_anomalyTurns f_mostRows f_leapMark f_sunEpicycle f_moonEpicycle f_currentDay f_currentYear f_currentMonth f_currentLunarDay f_currentFlags f_rowCount : Int32} {a_sine a_lunations a_names a_conjunctions a_firstDays a_lengths a_monthRows : Nat → Int32}
theorem xq_45 {post : Int32 → SX → Prop} (H : cl_ok e1 e2) {y k1 k2 : Nat} {r : Int32} (hy : y ≤ 5200) (hY : ∀ k, (cl_z e1 e2 k + 1) / 12 = y ↔ k1 ≤ k ∧ k < k2) (h12 : k1 < k2) (h13 : k2 ≤ k1 + 13) (hr : rw_K e1 e2 k1 (k2 - k1) r)
    (K : ∀ al an ac af ae am : Nat → Int32, rw_X e1 e2 k1 (k2 - k1) al an ac af ae am → post r (f_leastDay, f_greatestDay, f_leastYear, f_greatestYear, f_sunTurns, f_moonTurns, f_anomalyTurns, f_mostRows, f_leapMark, nI e1, nI e2, f_currentDay, f_currentYear, f_currentMonth, f_currentLunarDay, f_currentFlags, nI (k2 - k1), ns_tb, al, an, ac, af, ae, am)) :
    ∀ (m n k q : Nat) (al an ac af ae am : Nat → Int32), m ≤ 16 → m < n → 30 ≤ k → k + m ≤ 64440 → k2 ≤ k + m → q = min k k2 - k1 → rw_X e1 e2 k1 q al an ac af ae am →
    wX_build_45 post (nI y) n (nI k) (nI (cl_C e1 e2 (30 * k))) (nI (cl_z e1 e2 k)) (nI (16 - m)) f_leastDay f_greatestDay f_leastYear f_greatestYear f_sunTurns f_moonTurns f_anomalyTurns f_mostRows f_leapMark (nI e1) (nI e2) f_currentDay f_currentYear f_currentMonth f_currentLunarDay f_currentFlags (nI q) ns_tb al an ac af ae am := by
  intro m
  induction m with
  | zero =>
    intro n k q al an ac af ae am _ hn h1 h2 h3 hq hX
    obtain ⟨n, rfl⟩ : ∃ j, n = j + 1 := ⟨n - 1, by omega⟩
    have eq : q = k2 - k1 := by omega
    subst eq
    exact br_t (by decide) (xq_kind (by omega) hr hX (K _ _ _ _ _ _ hX))
  | succ m ih =>
    intro n k q al an ac af ae am hm hn h1 h2 h3 hq hX
    obtain ⟨n, rfl⟩ : ∃ j, n = j + 1 := ⟨n - 1, by omega⟩
    have zb := cl_zb H (k := k) (by omega) (by omega)
    have zb2 := cl_zb H (k := k + 1) (by omega) (by omega)
    have cb := cl_Cb H (L := 30 * (k + 1)) (by omega) (by omega)
    have cm := cl_Cm H (L := 30 * k) (M := 30 * (k + 1)) (by omega)
    have e16 : nI (16 - (m + 1)) + 1 = nI (16 - m) := by
      rw [nI_1]
      exact congrArg nI (by omega)
    refine br_f (nI_ge (a := 16 - (m + 1)) (b := 16) (by omega) (by decide)) (xq_conj H (nI_1 k) (by omega) (by omega) ?_)
    refine xq_sa H rfl (by omega) (by omega) ?_
    refine xq_yo (by omega) ?_
    have hYk := hY k
    refine pk_eq ((cl_z e1 e2 k + 1) / 12) y (fun ey => ?_) (fun ey => ?_)
    · have hk := hYk.mp ey
      have W : ∀ lp : Nat, lp = cl_lm e1 e2 k → lp ≤ 1 → wX_build_95 post (wX_build_45 post (nI y) n) (nI y) (nI k) (nI (cl_C e1 e2 (30 * k))) (nI (16 - (m + 1))) (nI (cl_C e1 e2 (30 * (k + 1)))) (nI (cl_z e1 e2 (k + 1))) (nI lp) (nI (cl_z e1 e2 k)) (nI k) f_leastDay f_greatestDay f_leastYear f_greatestYear f_sunTurns f_moonTurns f_anomalyTurns f_mostRows f_leapMark (nI e1) (nI e2) f_currentDay f_currentYear f_currentMonth f_currentLunarDay f_currentFlags (nI q) ns_tb al an ac af ae am := by
        intro lp hlp hl1
        unfold wX_build_95
        refine xq_add (by omega) (by omega) hl1 (by omega) cm ?_
        refine nm_r (nI_1 k) (nm_r e16 ?_)
        have hX2 := rw_Xa (k := k) (by omega) hX
        rw [← hlp] at hX2
        exact ih n (k + 1) (q + 1) _ _ _ _ _ _ (by omega) (by omega) (by omega) (by omega) (by omega) (by omega) hX2
      refine pk_eq (cl_z e1 e2 (k + 1)) (cl_z e1 e2 k) (fun e => ?_) (fun e => ?_)
      · exact W 1 (by unfold cl_lm; rw [if_pos e]) (by decide)
      · exact W 0 (by unfold cl_lm; rw [if_neg e]) (by decide)
    · have hk : ¬ (k1 ≤ k ∧ k < k2) := fun z => ey (hYk.mpr z)
      exact nm_r (nI_1 k) (nm_r e16 (ih n (k + 1) q _ _ _ _ _ _ (by omega) (by omega) (by omega) (by omega) (by omega) (by omega) hX))
theorem xq_build {post : Int32 → SX → Prop} (H : cl_ok e1 e2) {y k1 k2 : Nat} {r : Int32} (hy4 : 4 ≤ y) (hy : y ≤ 5200) (hY : ∀ k, (cl_z e1 e2 k + 1) / 12 = y ↔ k1 ≤ k ∧ k < k2) (h01 : cl_k e1 e2 (cl_g (12 * y - 1) - 8) < k1) (h12 : k1 < k2) (h13 : k2 ≤ k1 + 13) (h16 : k2 ≤ cl_k e1 e2 (cl_g (12 * y - 1) - 8) + 16) (hr : rw_K e1 e2 k1 (k2 - k1) r)
    (K : ∀ al an ac af ae am : Nat → Int32, rw_X e1 e2 k1 (k2 - k1) al an ac af ae am → post r (f_leastDay, f_greatestDay, f_leastYear, f_greatestYear, f_sunTurns, f_moonTurns, f_anomalyTurns, f_mostRows, f_leapMark, nI e1, nI e2, f_currentDay, f_currentYear, f_currentMonth, f_currentLunarDay, f_currentFlags, nI (k2 - k1), ns_tb, al, an, ac, af, ae, am)) :
    wpX_build post (f_leastDay, f_greatestDay, f_leastYear, f_greatestYear, f_sunTurns, f_moonTurns, f_anomalyTurns, f_mostRows, f_leapMark, nI e1, nI e2, f_currentDay, f_currentYear, f_currentMonth, f_currentLunarDay, f_currentFlags, f_rowCount, ns_tb, a_lunations, a_names, a_conjunctions, a_firstDays, a_lengths, a_monthRows) (nI y) := by
  have hg : 1430 ≤ cl_g (12 * y - 1) ∧ cl_g (12 * y - 1) ≤ 1900900 := by unfold cl_g; omega
  have kb := cl_kb H (d := cl_g (12 * y - 1) - 8) (by omega) (by omega)
  have cb := cl_Cb H (L := 30 * cl_k e1 e2 (cl_g (12 * y - 1) - 8)) (by omega) (by omega)
  have k12 : 12 * nI y = nI (12 * y) := pk_mul 12 y
  have k1' : nI (12 * y) - 1 = nI (12 * y - 1) := pk_sub (b := 1) (by omega)
  unfold wpX_build
  dsimp only
  refine xq_w1 (nI_nlt (b := 4) hy4 (by omega)) (nI_nlt (a := 5200) hy (by decide)) (br_f (by decide) ?_)
  refine xq_clear (fun b hb => ?_)
  refine xq_lb H (by rw [k12, k1']) (by omega) (by omega) ?_
  refine xq_conj H rfl (by omega) (by omega) ?_
  refine xq_sa H rfl (by omega) (by omega) ?_
  exact ⟨17, xq_45 H hy hY h12 h13 hr K 16 17 _ 0 _ _ _ _ _ _ (by omega) (by omega) (by omega) (by omega) (by omega) (by omega) (rw_X0 hb)⟩
end
end
section
/-! build and occurrences, the reference -/
theorem nx_nm {e1 e2 k : Nat} : nI (cl_nm e1 e2 k) - nI (cl_nm e1 e2 k) / 16 * 16 = nI (cl_mo e1 e2 k) := by
  have mb := cl_mob e1 e2 k
  have lb := cl_lm1 e1 e2 k
  have nb : cl_nm e1 e2 k = cl_mo e1 e2 k + 16 * cl_lm e1 e2 k := rfl
  have e : nI (cl_nm e1 e2 k) - nI (cl_nm e1 e2 k) / 16 * 16 = nI (cl_nm e1 e2 k % 16) := pk_rem (d := 16) (by omega) (by decide) (by decide)
  rw [e]
  exact congrArg nI (by omega)
section
variable {f_sunEpicycle f_moonEpicycle f_current f_rowCount : Int32} {a_s a_firstDay a_rowNames a_times : Nat → Int32}
theorem yq_24 {post : Int32 → Prop} {e1 e2 k1 N m0 : Nat} (hN : N ≤ 13) (hm : m0 ≤ 12) (h : ∀ i, i < N → a_rowNames i = nI (cl_nm e1 e2 (k1 + i))) (hp : post (nI (rw_n e1 e2 k1 m0 N))) :
    ∀ (m n i : Nat), i + m = N → m < n → wY_occurrences_24 post (nI m0) f_sunEpicycle f_moonEpicycle f_current (nI N) a_s a_firstDay a_rowNames a_times n (nI (rw_n e1 e2 k1 m0 i)) (nI i) := by
  intro m
  induction m with
  | zero =>
    intro n i hi hn
    obtain ⟨n, rfl⟩ : ∃ j, n = j + 1 := ⟨n - 1, by omega⟩
    have e : i = N := by omega
    subst e
    exact br_t (nI_le (Nat.le_refl _) (by omega)) hp
  | succ m ih =>
    intro n i hi hn
    obtain ⟨n, rfl⟩ : ∃ j, n = j + 1 := ⟨n - 1, by omega⟩
    have mb := cl_mob e1 e2 (k1 + i)
    have en : a_rowNames (nI i).toNatClampNeg = nI (cl_nm e1 e2 (k1 + i)) := by
      rw [nI_clamp (by omega)]
      exact h i (by omega)
    have em : a_rowNames (nI i).toNatClampNeg - a_rowNames (nI i).toNatClampNeg / 16 * 16 = nI (cl_mo e1 e2 (k1 + i)) := by
      rw [en]
      exact nx_nm
    have K := ih n (i + 1) (by omega) (by omega)
    rw [rw_n] at K
    refine br_f (nI_ge (by omega) (by omega)) (And.intro (pk_in i 16 (by omega)) (And.intro (by decide) (pk_eq (cl_mo e1 e2 (k1 + i)) m0 (fun q => ?_) (fun q => ?_) em)))
    · rw [if_pos q] at K
      exact nm_r (nI_1 _) (nm_r (nI_1 i) K)
    · rw [if_neg q, Nat.add_zero] at K
      exact nm_r (nI_1 i) K
theorem yq_oc {post : Int32 → Prop} {e1 e2 k1 N m0 : Nat} (hN0 : 0 < N) (hN : N ≤ 13) (hm1 : 1 ≤ m0) (hm : m0 ≤ 12) (h : ∀ i, i < N → a_rowNames i = nI (cl_nm e1 e2 (k1 + i))) (hp : post (nI (rw_n e1 e2 k1 m0 N))) : wpY_occurrences post (f_sunEpicycle, f_moonEpicycle, f_current, nI N, a_s, a_firstDay, a_rowNames, a_times) (nI m0) := by
  refine br_f (nI_ne0 hN0 (by omega)) (rl_i2 (nI_nlt (b := 1) hm1 (by omega)) (nI_nlt (a := 12) hm (by decide)) ⟨N + 1, ?_⟩)
  exact yq_24 hN hm h hp N (N + 1) 0 (by omega) (by omega)
theorem yq_181 {post : Int32 → SY → Prop} {e1 e2 k1 N : Nat} {r : Int32} (hN : N ≤ 13) (hr : rw_K e1 e2 k1 N r) (hp : post r (f_sunEpicycle, f_moonEpicycle, f_current, nI N, a_s, a_firstDay, a_rowNames, a_times)) (h6 : ¬ rw_P6 e1 e2 k1 N) (h : ∀ i, i < N → a_rowNames i = nI (cl_nm e1 e2 (k1 + i))) :
    ∀ (m n i : Nat), i + m = N → m < n → (∀ j, j < i → cl_lm e1 e2 (k1 + j) = 0) → wY_build_181 post f_sunEpicycle f_moonEpicycle f_current (nI N) a_s a_firstDay a_rowNames a_times n (nI i) := by
  intro m
  induction m with
  | zero =>
    intro n i hi hf hz
    obtain ⟨n, rfl⟩ : ∃ j, n = j + 1 := ⟨n - 1, by omega⟩
    refine br_t (nI_le (by omega) (by omega)) ?_
    have h5 : ¬ rw_P5 e1 e2 k1 N := by
      intro z
      obtain ⟨j, hj, ej⟩ := z
      have := hz j (by omega)
      omega
    rw [hr.2.2 h6 h5] at hp
    exact hp
  | succ m ih =>
    intro n i hi hf hz
    obtain ⟨n, rfl⟩ : ∃ j, n = j + 1 := ⟨n - 1, by omega⟩
    have mb := cl_mob e1 e2 (k1 + i)
    have lb := cl_lm1 e1 e2 (k1 + i)
    have nb : cl_nm e1 e2 (k1 + i) = cl_mo e1 e2 (k1 + i) + 16 * cl_lm e1 e2 (k1 + i) := rfl
    have en : a_rowNames (nI i).toNatClampNeg = nI (cl_nm e1 e2 (k1 + i)) := by
      rw [nI_clamp (by omega)]
      exact h i (by omega)
    refine br_f (nI_ge (by omega) (by omega)) (And.intro (pk_in i 16 (by omega)) (pk_le (cl_nm e1 e2 (k1 + i)) 16 (fun q => ?_) (fun q => ?_) en))
    · refine nm_r (nI_1 i) (ih n (i + 1) (by omega) (by omega) (fun j hj => ?_))
      by_cases e : j = i
      · rw [e]; omega
      · exact hz j (by omega)
    · rw [hr.2.1 h6 ⟨i, by omega, by omega⟩] at hp
      exact hp
theorem yq_156 {post : Int32 → SY → Prop} {e1 e2 k1 N : Nat} {r : Int32} (hN0 : 0 < N) (hN : N ≤ 13) (hr : rw_K e1 e2 k1 N r) (hp : post r (f_sunEpicycle, f_moonEpicycle, f_current, nI N, a_s, a_firstDay, a_rowNames, a_times)) (h : ∀ i, i < N → a_rowNames i = nI (cl_nm e1 e2 (k1 + i))) :
    ∀ (m n i : Nat), i + m = 13 → 1 ≤ i → m < n → (∀ j, 1 ≤ j → j < i → ¬ rw_n e1 e2 k1 j N = 0) → wY_build_156 post f_sunEpicycle f_moonEpicycle f_current (nI N) a_s a_firstDay a_rowNames a_times n (nI i) := by
  intro m
  induction m with
  | zero =>
    intro n i hi h1 hf hz
    obtain ⟨n, rfl⟩ : ∃ j, n = j + 1 := ⟨n - 1, by omega⟩
    have h6 : ¬ rw_P6 e1 e2 k1 N := by
      intro z
      obtain ⟨j, hj, hj2, ej⟩ := z
      exact hz j hj (by omega) ej
    exact br_t (nI_lt (a := 12) (by omega) (by omega)) ⟨N + 1, yq_181 hN hr hp h6 h N (N + 1) 0 (by omega) (by omega) (fun j hj => absurd hj (by omega))⟩
  | succ m ih =>
    intro n i hi h1 hf hz
    obtain ⟨n, rfl⟩ : ∃ j, n = j + 1 := ⟨n - 1, by omega⟩
    have nb := rw_nb e1 e2 k1 i N
    refine br_f (nI_nlt (a := 12) (by omega) (by decide)) (yq_oc hN0 hN h1 (by omega) h (pk_eq (rw_n e1 e2 k1 i N) 0 (fun q => ?_) (fun q => ?_)))
    · rw [hr.1 ⟨i, h1, by omega, q⟩] at hp
      exact hp
    · refine nm_r (nI_1 i) (ih n (i + 1) (by omega) (by omega) (by omega) (fun j hj hj2 => ?_))
      by_cases e : j = i
      · rw [e]; exact q
      · exact hz j hj (by omega)
end
section
variable {e1 e2 : Nat}
variable {f_sunEpicycle f_moonEpicycle f_current f_rowCount : Int32} {a_s a_firstDay a_rowNames a_times : Nat → Int32}
theorem yq_133 {post : Int32 → SY → Prop} {J : Int32 → Int32 → (Nat → Int32) → (Nat → Int32) → (Nat → Int32) → (Nat → Int32) → Prop} {x1 x2 : Int32} {d q mo w : Nat} (hq : q < 16)
    (h : J (nI (d + 21)) (nI (q + 1)) a_s a_firstDay (upd a_rowNames q (nI (mo + w))) a_times) : wY_build_133 post J x1 x2 (nI d) (nI w) (nI mo) (nI q) f_sunEpicycle f_moonEpicycle f_current (nI q) a_s a_firstDay a_rowNames a_times := by
  have k20 : nI d + 20 = nI (d + 20) := nI_add d 20
  refine And.intro (pk_in q 16 hq) (nm_r (e' := upd a_rowNames q (nI (mo + w))) (by rw [nI_clamp (by omega), nI_add]) (nm_r (nI_1 q) (nm_r k20 (nm_r (nI_1 _) ?_))))
  exact h
theorem yq_31 {post : Int32 → SY → Prop} (H : cl_ok e1 e2) {y k1 k2 g : Nat} {r : Int32} (hy : y ≤ 5200) (hg : 1400 ≤ g) (hg2 : g ≤ 1900400) (hY : ∀ k, (cl_z e1 e2 k + 1) / 12 = y ↔ k1 ≤ k ∧ k < k2) (h12 : k1 < k2) (h13 : k2 ≤ k1 + 13) (hend : cl_O e1 e2 (30 * (k2 - 1)) ≤ g + 420) (hr : rw_K e1 e2 k1 (k2 - k1) r)
    (K : ∀ af ar : Nat → Int32, rw_Y e1 e2 k1 (k2 - k1) af ar → post r (nI e1, nI e2, f_current, nI (k2 - k1), ns_tb, af, ar, a_times)) :
    ∀ (m n d q : Nat) (af ar : Nat → Int32), g + 421 ≤ d + m → m < n → 951 ≤ d → d ≤ g + 441 → q = min (cl_k e1 e2 (d - 1) + 1) k2 - k1 → rw_Y e1 e2 k1 q af ar →
    wY_build_31 post (nI y) (nI g) (nI e1) (nI e2) f_current n (nI d) (nI q) ns_tb af ar a_times := by
  have k420 : nI g + 420 = nI (g + 420) := nI_add g 420
  have fin : ∀ (d q : Nat) (af ar : Nat → Int32), g + 421 ≤ d → d ≤ g + 441 → q = min (cl_k e1 e2 (d - 1) + 1) k2 - k1 → rw_Y e1 e2 k1 q af ar → ∃ n, wY_build_156 post (nI e1) (nI e2) f_current (nI q) ns_tb af ar a_times n 1 := by
    intro d q af ar h1 h2 hq hR
    have a := (cl_kO H (d := d - 1) (by omega) (k2 - 1)).mpr (by omega)
    have eq : q = k2 - k1 := by omega
    subst eq
    exact ⟨13, yq_156 (by omega) (by omega) hr (K _ _ hR) (fun i hi => (hR i hi).2) 12 13 1 (by omega) (by omega) (by omega) (fun j hj hj2 => absurd hj2 (by omega))⟩
  intro m
  induction m with
  | zero =>
    intro n d q af ar hd hn h1 h2 hq hR
    obtain ⟨n, rfl⟩ : ∃ j, n = j + 1 := ⟨n - 1, by omega⟩
    exact br_t (by rw [k420]; exact nI_lt (by omega) (by omega)) (fin d q af ar (by omega) h2 hq hR)
  | succ m ih =>
    intro n d q af ar hd hn h1 h2 hq hR
    obtain ⟨n, rfl⟩ : ∃ j, n = j + 1 := ⟨n - 1, by omega⟩
    by_cases c : g + 421 ≤ d
    · exact br_t (by rw [k420]; exact nI_lt (by omega) (by omega)) (fin d q af ar c h2 hq hR)
    have kb := cl_kb H (d := d) (by omega) (by omega)
    have kb1 := cl_kb H (d := d - 1) (by omega) (by omega)
    have zb := cl_zb H (k := cl_k e1 e2 d) (by omega) (by omega)
    have zb2 := cl_zb H (k := cl_k e1 e2 d + 1) (by omega) (by omega)
    have k20 : nI d + 20 = nI (d + 20) := nI_add d 20
    refine br_f (by rw [k420]; exact nI_nlt (by omega) (by omega)) (yq_lc H rfl (by omega) (by omega) ?_)
    refine And.intro (by decide) (yq_lc H (d := d - 1) (pk_sub (b := 1) (by omega)) (by omega) (by omega) (And.intro (by decide) ?_))
    refine pk_eq (cl_k e1 e2 d) (cl_k e1 e2 (d - 1)) (fun e => ?_) (fun e => ?_) (nx_k H (by omega)) (nx_k H (by omega))
    · refine nm_r (nI_1 d) (ih n (d + 1) q af ar (by omega) (by omega) (by omega) (by omega) ?_ hR)
      rw [Nat.add_sub_cancel, e]
      exact hq
    · have st := cl_dstep H (d := d) h1 (by omega) e
      have nx : ∀ (q2 : Nat) (af2 ar2 : Nat → Int32), q2 = min (cl_k e1 e2 d + 1) k2 - k1 → rw_Y e1 e2 k1 q2 af2 ar2 → wY_build_31 post (nI y) (nI g) (nI e1) (nI e2) f_current n (nI (d + 21)) (nI q2) ns_tb af2 ar2 a_times := by
        intro q2 af2 ar2 hq2 hR2
        refine ih n (d + 21) q2 af2 ar2 (by omega) (by omega) (by omega) (by omega) ?_ hR2
        rw [show d + 21 - 1 = d + 20 by omega, st.2.2]
        exact hq2
      have hYk := hY (cl_k e1 e2 d)
      have ey : nI (cl_z e1 e2 (cl_k e1 e2 d) + 1) / 12 = nI ((cl_z e1 e2 (cl_k e1 e2 d) + 1) / 12) := pk_div (d := 12) (by omega) (by decide) (by decide)
      refine yq_sg H (a := 0) rfl rfl (by decide) (by omega) (by omega) ?_
      rw [Nat.add_zero, nI_1 (cl_z e1 e2 (cl_k e1 e2 d))]
      refine And.intro (by decide) (pk_eq ((cl_z e1 e2 (cl_k e1 e2 d) + 1) / 12) y (fun eY => ?_) (fun eY => ?_) ey)
      · have hk := hYk.mp eY
        refine br_f (nI_ge (b := 16) (by omega) (by decide)) (And.intro (pk_in q 16 (by omega)) (nm_r (e' := upd af q (nI d)) (by rw [nI_clamp (by omega)]) (And.intro (by decide) ?_)))
        refine yq_sg H (a := 1) rfl rfl (by decide) (by omega) (by omega) ?_
        have em : nI (cl_z e1 e2 (cl_k e1 e2 d) + 1) - nI (cl_z e1 e2 (cl_k e1 e2 d) + 1) / 12 * 12 + 1 = nI (cl_mo e1 e2 (cl_k e1 e2 d)) := by
          rw [← nI_1 (cl_z e1 e2 (cl_k e1 e2 d))]
          exact nx_mo (by omega)
        rw [em]
        have hR2 := rw_Ya (k := cl_k e1 e2 d) (by omega) hR
        rw [st.2.1] at hR2
        have lm : cl_nm e1 e2 (cl_k e1 e2 d) = cl_mo e1 e2 (cl_k e1 e2 d) + 16 * cl_lm e1 e2 (cl_k e1 e2 d) := rfl
        rw [lm] at hR2
        unfold cl_lm at hR2
        refine pk_eq (cl_z e1 e2 (cl_k e1 e2 d + 1)) (cl_z e1 e2 (cl_k e1 e2 d)) (fun el => ?_) (fun el => ?_)
        · rw [if_pos el] at hR2
          exact yq_133 (w := 16) (by omega) (nx (q + 1) _ _ (by omega) hR2)
        · rw [if_neg el] at hR2
          exact yq_133 (w := 0) (by omega) (nx (q + 1) _ _ (by omega) hR2)
      · have hk : ¬ (k1 ≤ cl_k e1 e2 d ∧ cl_k e1 e2 d < k2) := fun z => eY (hYk.mpr z)
        exact nm_r k20 (nm_r (nI_1 _) (nx q af ar (by omega) hR))
theorem yq_build {post : Int32 → SY → Prop} (H : cl_ok e1 e2) {y k1 k2 : Nat} {r : Int32} (hy4 : 4 ≤ y) (hy : y ≤ 5200) (hY : ∀ k, (cl_z e1 e2 k + 1) / 12 = y ↔ k1 ≤ k ∧ k < k2) (h01 : cl_k e1 e2 (cl_g (12 * y - 1) - 8) < k1) (h12 : k1 < k2) (h13 : k2 ≤ k1 + 13) (hend : cl_O e1 e2 (30 * (k2 - 1)) ≤ cl_g (12 * y - 1) + 420) (hr : rw_K e1 e2 k1 (k2 - k1) r)
    (K : ∀ af ar : Nat → Int32, rw_Y e1 e2 k1 (k2 - k1) af ar → post r (nI e1, nI e2, f_current, nI (k2 - k1), ns_tb, af, ar, a_times)) :
    wpY_build post (nI e1, nI e2, f_current, f_rowCount, ns_tb, a_firstDay, a_rowNames, a_times) (nI y) := by
  have hg : 1430 ≤ cl_g (12 * y - 1) ∧ cl_g (12 * y - 1) ≤ 1900000 := by unfold cl_g; omega
  have km := cl_km H (c := cl_g (12 * y - 1) - 40 - 1) (d := cl_g (12 * y - 1) - 8) (by omega) (by omega)
  have k40 : nI (cl_g (12 * y - 1)) - 40 = nI (cl_g (12 * y - 1) - 40) := pk_sub (b := 40) (by omega)
  refine rl_i2 (nI_nlt (b := 4) hy4 (by omega)) (nI_nlt (a := 5200) hy (by decide)) ?_
  refine yq_gs (m := 1) rfl rfl hy (by decide) (by omega) ?_
  rw [show 12 * y + 1 - 2 = 12 * y - 1 by omega]
  refine nm_r k40 ⟨462, ?_⟩
  exact yq_31 H hy (by omega) (by omega) hY h12 h13 hend hr K 461 462 _ 0 _ _ (by omega) (by omega) (by omega) (by omega) (by omega) (fun i hi => absurd hi (by omega))
end
end
section
/-! rows read: lengths, findDay; goName's days -/
theorem cl_kk {e1 e2 : Nat} (H : cl_ok e1 e2) {d : Nat} (hd : 17 ≤ d) (k : Nat) : cl_k e1 e2 d = k ↔ cl_O e1 e2 (30 * k) ≤ d ∧ d < cl_O e1 e2 (30 * (k + 1)) := by
  have a := cl_kO H hd k
  have b := cl_kO H hd (k + 1)
  omega
theorem cl_TT {e1 e2 : Nat} (H : cl_ok e1 e2) {d : Nat} (hd : 17 ≤ d) (L : Nat) : cl_T e1 e2 d = L ↔ cl_O e1 e2 L ≤ d ∧ d < cl_O e1 e2 (L + 1) := by
  have a := cl_TO H hd L
  have b := cl_TO H hd (L + 1)
  omega
theorem cl_Ob {e1 e2 : Nat} (H : cl_ok e1 e2) {k : Nat} (h1 : 35 ≤ k) (h2 : k ≤ 64351) : 1000 ≤ cl_O e1 e2 (30 * k) ∧ cl_O e1 e2 (30 * k) ≤ 1900400 := by
  have a := cl_lin H (L := 30 * k) (by omega)
  unfold cl_O
  generalize cl_C e1 e2 (30 * k) = c at *
  omega
/-- findDay's answer -/
def fd_P (e1 e2 k c n : Nat) : Prop := cl_O e1 e2 (30 * k + n) - cl_O e1 e2 (30 * k + n - 1) = c
def fd_D (e1 e2 k c f r : Nat) : Prop := (r = 0 ∧ ∀ n, f ≤ n → n ≤ 30 → ¬ fd_P e1 e2 k c n) ∨ (f ≤ r ∧ r ≤ 30 ∧ fd_P e1 e2 k c r ∧ ∀ w, f ≤ w → w < r → ¬ fd_P e1 e2 k c w)
theorem fd_ex (e1 e2 k c f : Nat) : ∃ r, fd_D e1 e2 k c f r := by
  by_cases h : ∃ n, f ≤ n ∧ n ≤ 30 ∧ fd_P e1 e2 k c n
  · obtain ⟨r, hr, hl⟩ := pk_least _ h
    exact ⟨r, Or.inr ⟨hr.1, hr.2.1, hr.2.2, fun w a b q => hl w b ⟨a, by have := hr.2.1; omega, q⟩⟩⟩
  · exact ⟨0, Or.inl ⟨rfl, fun n a b q => h ⟨n, a, b, q⟩⟩⟩
theorem fd_hit {e1 e2 k c f r n : Nat} (hD : fd_D e1 e2 k c f r) (h1 : f ≤ n) (h2 : n ≤ 30) (hz : ∀ w, f ≤ w → w < n → ¬ fd_P e1 e2 k c w) (hp : fd_P e1 e2 k c n) : r = n := by
  rcases hD with ⟨_, hd⟩ | ⟨a, b, q, hd⟩
  · exact absurd hp (hd n h1 h2)
  · by_cases c1 : r < n
    · exact absurd q (hz r a c1)
    · by_cases c2 : n < r
      · exact absurd hp (hd n h1 c2)
      · omega
theorem fd_no {e1 e2 k c f r : Nat} (hD : fd_D e1 e2 k c f r) (hz : ∀ w, f ≤ w → w < 31 → ¬ fd_P e1 e2 k c w) : r = 0 := by
  rcases hD with ⟨a, _⟩ | ⟨a, b, q, hd⟩
  · exact a
  · exact absurd q (hz r a (by omega))
section
variable {e1 e2 : Nat}
variable {f_leastDay f_greatestDay f_leastYear f_greatestYear f_sunTurns f_moonTurns f_anomalyTurns f_mostRows f_leapMark f_sunEpicycle f_moonEpicycle f_currentDay f_currentYear f_currentMonth f_currentLunarDay f_currentFlags f_rowCount : Int32} {a_sine a_lunations a_names a_conjunctions a_firstDays a_lengths a_monthRows : Nat → Int32}
theorem xq_57 {post : Int32 → Prop} (H : cl_ok e1 e2) {k c f r : Nat} (hk : 35 ≤ k) (hk2 : k ≤ 64350) (hc : c ≤ 2) (hf : 1 ≤ f) (hD : fd_D e1 e2 k c f r) (hp : post (nI r)) :
    ∀ (m n i : Nat), i + m = 31 → m < n → f ≤ i → (∀ w, f ≤ w → w < i → ¬ fd_P e1 e2 k c w) → wX_findDay_57 post (nI c) (nI (30 * k)) f_leastDay f_greatestDay f_leastYear f_greatestYear f_sunTurns f_moonTurns f_anomalyTurns f_mostRows f_leapMark (nI e1) (nI e2) f_currentDay f_currentYear f_currentMonth f_currentLunarDay f_currentFlags f_rowCount ns_tb a_lunations a_names a_conjunctions a_firstDays a_lengths a_monthRows n (nI (cl_O e1 e2 (30 * k + i - 1))) (nI i) := by
  intro m
  induction m with
  | zero =>
    intro n i hi hn h1 hz
    obtain ⟨n, rfl⟩ : ∃ j, n = j + 1 := ⟨n - 1, by omega⟩
    have e : i = 31 := by omega
    subst e
    rw [fd_no hD hz] at hp
    exact br_t (by decide) hp
  | succ m ih =>
    intro n i hi hn h1 hz
    obtain ⟨n, rfl⟩ : ∃ j, n = j + 1 := ⟨n - 1, by omega⟩
    have om := cl_Om H (L := 30 * k + i - 1) (M := 30 * k + i) (by omega)
    have cb := cl_Cb H (L := 30 * k + i) (by omega) (by omega)
    have ob : cl_O e1 e2 (30 * k + i) < 2000000 := by unfold cl_O; omega
    refine br_f (nI_nlt (a := 30) (by omega) (by decide)) (xq_od H (nI_add _ _) (by omega) (by omega) ?_)
    refine pk_eq (cl_O e1 e2 (30 * k + i) - cl_O e1 e2 (30 * k + i - 1)) c (fun e => ?_) (fun e => ?_) (pk_sub om)
    · rw [fd_hit hD h1 (by omega) hz e] at hp
      exact hp
    · have K := ih n (i + 1) (by omega) (by omega) (by omega) (fun w a b => by
        by_cases ew : w = i
        · rw [ew]; exact e
        · exact hz w a (by omega))
      exact nm_r (nI_1 i) K
end
section
variable {e1 e2 : Nat}
variable {f_sunEpicycle f_moonEpicycle f_current f_rowCount : Int32} {a_s a_firstDay a_rowNames a_times : Nat → Int32}
theorem yq_36 {post : Int32 → Prop} (H : cl_ok e1 e2) {k a : Nat} (hk : 35 ≤ k) (hk2 : k ≤ 64350) (ha : a = cl_O e1 e2 (30 * k)) (hp : post (nI (cl_O e1 e2 (30 * (k + 1)) - a))) :
    ∀ (m n d : Nat), d + m = a + 45 → m < n → a ≤ d → wY_rowLength_36 post (nI a) (nI k) (nI e1) (nI e2) f_current f_rowCount ns_tb a_firstDay a_rowNames a_times n (nI (min d (cl_O e1 e2 (30 * (k + 1))) - a)) (nI d) := by
  have ob := cl_Ob H hk (by omega)
  have lo := cl_lenO H (k := k) (by omega)
  rw [← ha] at ob lo
  have k45 : nI a + 45 = nI (a + 45) := nI_add a 45
  intro m
  induction m with
  | zero =>
    intro n d hd hn h1
    obtain ⟨n, rfl⟩ : ∃ j, n = j + 1 := ⟨n - 1, by omega⟩
    refine br_t (by rw [k45]; exact nI_le (by omega) (by omega)) ?_
    rw [show min d (cl_O e1 e2 (30 * (k + 1))) = cl_O e1 e2 (30 * (k + 1)) by omega]
    exact hp
  | succ m ih =>
    intro n d hd hn h1
    obtain ⟨n, rfl⟩ : ∃ j, n = j + 1 := ⟨n - 1, by omega⟩
    have kb := cl_kb H (d := d) (by omega) (by omega)
    have q := cl_kk H (d := d) (by omega) k
    rw [← ha] at q
    refine br_f (by rw [k45]; exact nI_ge (by omega) (by omega)) (yq_lc H rfl (by omega) (by omega) (And.intro (by decide) ?_))
    have K := ih n (d + 1) (by omega) (by omega) (by omega)
    refine pk_eq (cl_k e1 e2 d) k (fun e => ?_) (fun e => ?_) (nx_k H (by omega))
    · rw [show min (d + 1) (cl_O e1 e2 (30 * (k + 1))) - a = min d (cl_O e1 e2 (30 * (k + 1))) - a + 1 by omega] at K
      exact nm_r (nI_1 _) (nm_r (nI_1 d) K)
    · rw [show min (d + 1) (cl_O e1 e2 (30 * (k + 1))) - a = min d (cl_O e1 e2 (30 * (k + 1))) - a by omega] at K
      exact nm_r (nI_1 d) K
theorem yq_137 {post : Int32 → SY → Prop} {k c f r : Nat} (hc : c ≤ 2) (hf : 1 ≤ f) (hD : fd_D e1 e2 k c f r) (ht : ∀ j, j < 30 → a_times j = nI (cl_O e1 e2 (30 * k + j + 1) - cl_O e1 e2 (30 * k + j)) ∧ cl_O e1 e2 (30 * k + j + 1) - cl_O e1 e2 (30 * k + j) < 2 ^ 30) (hp : post (nI r) (f_sunEpicycle, f_moonEpicycle, f_current, f_rowCount, a_s, a_firstDay, a_rowNames, a_times)) :
    ∀ (m n i : Nat), i + m = 31 → m < n → f ≤ i → (∀ w, f ≤ w → w < i → ¬ fd_P e1 e2 k c w) → wY_findDay_137 post (nI c) f_sunEpicycle f_moonEpicycle f_current f_rowCount a_s a_firstDay a_rowNames a_times n (nI i) := by
  intro m
  induction m with
  | zero =>
    intro n i hi hn h1 hz
    obtain ⟨n, rfl⟩ : ∃ j, n = j + 1 := ⟨n - 1, by omega⟩
    have e : i = 31 := by omega
    subst e
    rw [fd_no hD hz] at hp
    exact br_t (by decide) hp
  | succ m ih =>
    intro n i hi hn h1 hz
    obtain ⟨n, rfl⟩ : ∃ j, n = j + 1 := ⟨n - 1, by omega⟩
    have t := ht (i - 1) (by omega)
    rw [show 30 * k + (i - 1) + 1 = 30 * k + i by omega, show 30 * k + (i - 1) = 30 * k + i - 1 by omega] at t
    have e1' : nI i - 1 = nI (i - 1) := pk_sub (b := 1) (by omega)
    refine br_f (nI_nlt (a := 30) (by omega) (by decide)) (And.intro (by rw [e1']; exact pk_in (i - 1) 30 (by omega)) ?_)
    refine pk_eq (cl_O e1 e2 (30 * k + i) - cl_O e1 e2 (30 * k + i - 1)) c (fun e => ?_) (fun e => ?_) (by rw [e1', nI_clamp (by omega)]; exact t.1)
    · rw [fd_hit hD h1 (by omega) hz e] at hp
      exact hp
    · have K := ih n (i + 1) (by omega) (by omega) (by omega) (fun w a b => by
        by_cases ew : w = i
        · rw [ew]; exact e
        · exact hz w a (by omega))
      exact nm_r (nI_1 i) K
theorem yq_81 {post : Int32 → SY → Prop} (H : cl_ok e1 e2) {k c f r a : Nat} (hk : 35 ≤ k) (hk2 : k ≤ 64350) (ha : a = cl_O e1 e2 (30 * k)) (hc : c ≤ 2) (hf : 1 ≤ f) (hf2 : f ≤ 30) (hD : fd_D e1 e2 k c f r) (hp : ∀ b : Nat → Int32, post (nI r) (nI e1, nI e2, f_current, f_rowCount, ns_tb, a_firstDay, a_rowNames, b)) :
    ∀ (m n d : Nat) (b : Nat → Int32), d + m = a + 45 → m < n → a ≤ d → (∀ j, j < 30 → b j = nI (min d (cl_O e1 e2 (30 * k + j + 1)) - min d (cl_O e1 e2 (30 * k + j)))) →
    wY_findDay_81 post (nI c) (nI f) (nI a) (nI k) (nI e1) (nI e2) f_current f_rowCount n (nI d) ns_tb a_firstDay a_rowNames b := by
  have ob := cl_Ob H hk (by omega)
  have lo := cl_lenO H (k := k) (by omega)
  have om : ∀ j, j < 31 → cl_O e1 e2 (30 * k + j) ≤ cl_O e1 e2 (30 * (k + 1)) := fun j hj => cl_Om H (by omega)
  have om0 : ∀ j, cl_O e1 e2 (30 * k) ≤ cl_O e1 e2 (30 * k + j) := fun j => cl_Om H (by omega)
  rw [← ha] at ob lo
  have k45 : nI a + 45 = nI (a + 45) := nI_add a 45
  intro m
  induction m with
  | zero =>
    intro n d b hd hn h1 hb
    obtain ⟨n, rfl⟩ : ∃ j, n = j + 1 := ⟨n - 1, by omega⟩
    refine br_t (by rw [k45]; exact nI_le (by omega) (by omega)) ⟨32 - f, yq_137 hc hf hD (fun j hj => ?_) (hp b) (31 - f) (32 - f) f (by omega) (by omega) (Nat.le_refl _) (fun w a b => by omega)⟩
    have o1 := om j (by omega)
    have o2 := om (j + 1) (by omega)
    rw [← Nat.add_assoc] at o2
    have hbj := hb j hj
    rw [show min d (cl_O e1 e2 (30 * k + j + 1)) = cl_O e1 e2 (30 * k + j + 1) by omega, show min d (cl_O e1 e2 (30 * k + j)) = cl_O e1 e2 (30 * k + j) by omega] at hbj
    exact ⟨hbj, by omega⟩
  | succ m ih =>
    intro n d b hd hn h1 hb
    obtain ⟨n, rfl⟩ : ∃ j, n = j + 1 := ⟨n - 1, by omega⟩
    have tb := nx_Tb H (d := d) (by omega)
    have t0 := (cl_TO H (d := d) (by omega) (30 * k)).mpr (by omega)
    have k30 : 30 * nI k = nI (30 * k) := pk_mul 30 k
    refine br_f (by rw [k45]; exact nI_ge (by omega) (by omega)) (yq_lc H rfl (by omega) (by omega) ?_)
    refine nm_r (e' := nI (cl_T e1 e2 d - 30 * k)) (by rw [k30, pk_sub t0]) (br_f (nI_pos (by omega)) (pk_le 30 (cl_T e1 e2 d - 30 * k) (fun h => ?_) (fun h => ?_)))
    · refine nm_r (nI_1 d) (ih n (d + 1) b (by omega) (by omega) (by omega) (fun j hj => ?_))
      rw [hb j hj]
      have q := cl_TT H (d := d) (by omega) (30 * k + j)
      have o := cl_Om H (L := 30 * k + j) (M := 30 * k + j + 1) (by omega)
      exact congrArg nI (by omega)
    · have hin : vp_in (nI (cl_T e1 e2 d - 30 * k)) 30 := pk_in (cl_T e1 e2 d - 30 * k) 30 h
      refine And.intro hin (And.intro hin (nm_r (e' := upd b (cl_T e1 e2 d - 30 * k) (b (cl_T e1 e2 d - 30 * k) + 1)) (by rw [nI_clamp (by omega)]) (nm_r (nI_1 d) (ih n (d + 1) _ (by omega) (by omega) (by omega) (fun j hj => ?_)))))
      have q := cl_TT H (d := d) (by omega) (30 * k + j)
      have o := cl_Om H (L := 30 * k + j) (M := 30 * k + j + 1) (by omega)
      by_cases e : j = cl_T e1 e2 d - 30 * k
      · subst e
        rw [pk_us, hb _ hj, nI_1]
        exact congrArg nI (by omega)
      · rw [pk_un e, hb j hj]
        exact congrArg nI (by omega)
theorem yq_56 {post : Int32 → SY → Prop} (H : cl_ok e1 e2) {k c f r a : Nat} (hk : 35 ≤ k) (hk2 : k ≤ 64350) (ha : a = cl_O e1 e2 (30 * k)) (hc : c ≤ 2) (hf : 1 ≤ f) (hf2 : f ≤ 30) (hD : fd_D e1 e2 k c f r) (hp : ∀ b : Nat → Int32, post (nI r) (nI e1, nI e2, f_current, f_rowCount, ns_tb, a_firstDay, a_rowNames, b)) :
    ∀ (m n i : Nat) (b : Nat → Int32), i + m = 30 → m < n → (∀ j, j < i → b j = 0) →
    wY_findDay_56 post (nI c) (nI f) (nI a) (nI k) (nI e1) (nI e2) f_current f_rowCount n (nI i) ns_tb a_firstDay a_rowNames b := by
  intro m
  induction m with
  | zero =>
    intro n i b hi hn hz
    obtain ⟨n, rfl⟩ : ∃ j, n = j + 1 := ⟨n - 1, by omega⟩
    have e : i = 30 := by omega
    subst e
    refine br_t (by decide) ⟨46, yq_81 H hk hk2 ha hc hf hf2 hD hp 45 46 a b (by omega) (by omega) (Nat.le_refl _) (fun j hj => ?_)⟩
    have o1 := cl_Om H (L := 30 * k) (M := 30 * k + j) (by omega)
    have o2 := cl_Om H (L := 30 * k) (M := 30 * k + j + 1) (by omega)
    rw [hz j hj, show min a (cl_O e1 e2 (30 * k + j + 1)) - min a (cl_O e1 e2 (30 * k + j)) = 0 by omega]
    rfl
  | succ m ih =>
    intro n i b hi hn hz
    obtain ⟨n, rfl⟩ : ∃ j, n = j + 1 := ⟨n - 1, by omega⟩
    refine br_f (nI_ge (b := 30) (by omega) (by decide)) (And.intro (pk_in i 30 (by omega)) (nm_r (e' := upd b i 0) (by rw [nI_clamp (by omega)]) (nm_r (nI_1 i) (ih n (i + 1) _ (by omega) (by omega) (fun j hj => ?_)))))
    by_cases e : j = i
    · subst e; exact pk_us
    · rw [pk_un e]; exact hz j (by omega)
end

/-! goName: which days bear the name -/
theorem gn_in {e1 e2 : Nat} (H : cl_ok e1 e2) {s l : Nat} (hs : 47 ≤ s) (hs2 : s ≤ 62420) (hl : 30 ≤ l) (hl2 : l ≤ 64450) (hz : cl_z e1 e2 l = s) : cl_k e1 e2 (cl_g s - 8) < l ∧ l < cl_k e1 e2 (cl_g s - 8) + 4 ∧ cl_g s - 8 < cl_O e1 e2 (30 * l) ∧ cl_O e1 e2 (30 * (l + 1)) ≤ cl_g s + 80 := by
  have gb := cl_gb s
  have hg : 1430 ≤ cl_g s ∧ cl_g s ≤ 1900900 := by unfold cl_g; omega
  generalize cl_g s = g at *
  have kb := cl_kb H (d := g - 8) (by omega) (by omega)
  have q0 := (cl_kO H (d := g - 8) (by omega) (cl_k e1 e2 (g - 8))).mp (Nat.le_refl _)
  have q1 : ¬ cl_O e1 e2 (30 * (cl_k e1 e2 (g - 8) + 1)) ≤ g - 8 := by
    rw [← cl_kO H (by omega)]
    omega
  have qk := cl_kO H (d := g - 8) (by omega) l
  generalize cl_k e1 e2 (g - 8) = k0 at *
  have z0 := cl_n1 H (k := k0) (by omega) (by omega) gb.1 (by omega) q0
  have z4 := cl_n2 H (k := k0 + 1) (n := 3) (j := 1) (by omega) (by omega) gb.2 (by omega) q1 (by omega)
  have a0 : k0 < l := by
    by_cases c : l ≤ k0
    · have := cl_zm H c
      omega
    · omega
  have a4 : l < k0 + 4 := by
    by_cases c : k0 + 1 + 3 ≤ l
    · have := cl_zm H c
      omega
    · omega
  have c4 := cl_n4 H (k := l) (j := 1) (by omega) (by omega) gb.2 (by omega)
  have l1 := cl_len1 H (k := l) (by omega)
  refine ⟨a0, a4, by omega, ?_⟩
  rw [← cl_CO]
  omega
theorem gn_lt {e1 e2 : Nat} (H : cl_ok e1 e2) {k l : Nat} (hk : 30 ≤ k) (hl2 : l ≤ 64450) (hz : cl_z e1 e2 k = cl_z e1 e2 l) (hm : cl_lm e1 e2 k = cl_lm e1 e2 l) (h : k < l) : False := by
  have n3 := cl_n3 H (k := k) (n := 2) (j := 1) (by omega) (by omega) (by omega)
  have e : l = k + 1 := by
    by_cases c : k + 2 ≤ l
    · have := cl_zm H c
      omega
    · omega
  subst e
  unfold cl_lm at hm
  rw [if_pos hz.symm, if_neg (by rw [show k + 1 + 1 = k + 2 by omega]; omega)] at hm
  omega
theorem gn_uni {e1 e2 : Nat} (H : cl_ok e1 e2) {k l : Nat} (hk : 30 ≤ k) (hk2 : k ≤ 64450) (hl : 30 ≤ l) (hl2 : l ≤ 64450) (hz : cl_z e1 e2 k = cl_z e1 e2 l) (hm : cl_lm e1 e2 k = cl_lm e1 e2 l) : k = l := by
  by_cases a : k < l
  · exact (gn_lt H hk hl2 hz hm a).elim
  by_cases b : l < k
  · exact (gn_lt H hl hk2 hz.symm hm.symm b).elim
  omega
theorem gn_Q {e1 e2 : Nat} (H : cl_ok e1 e2) {s ld fl k d : Nat} (hk : 30 ≤ k) (hk2 : k ≤ 64450) (hz : cl_z e1 e2 k = s) (hm : cl_lm e1 e2 k = fl % 2) (hld1 : 1 ≤ ld) (hld : ld ≤ 30) (hfl : fl ≤ 3) (h1 : 951 ≤ d) (h2 : d ≤ 1900900) :
    yn_Q e1 e2 s ld fl d ↔ (cl_O e1 e2 (30 * k + ld - 1) ≤ d ∧ d < cl_O e1 e2 (30 * k + ld) ∧ (fl / 2 = 0 ↔ d = cl_O e1 e2 (30 * k + ld - 1))) := by
  have t := cl_TT H (d := d) (by omega) (30 * k + ld - 1)
  rw [show 30 * k + ld - 1 + 1 = 30 * k + ld by omega] at t
  have t2 := cl_TO H (d := d - 1) (by omega) (30 * k + ld - 1)
  have t3 := cl_TO H (d := d - 1) (by omega) (30 * k + ld)
  have kb := cl_kb H (d := d) (by omega) (by omega)
  have ek : cl_k e1 e2 d = cl_T e1 e2 d / 30 := rfl
  have el : cl_T e1 e2 d = 30 * k + ld - 1 → (cl_ld e1 e2 d = fl / 2 ↔ (fl / 2 = 0 ↔ d = cl_O e1 e2 (30 * k + ld - 1))) := by
    intro eT
    have tt := t.mp eT
    unfold cl_ld
    by_cases c : cl_T e1 e2 d = cl_T e1 e2 (d - 1)
    · rw [if_pos c]
      omega
    · rw [if_neg c]
      omega
  constructor
  · intro q
    have e := gn_uni H (k := cl_k e1 e2 d) (l := k) (by omega) (by omega) hk hk2 (q.1.1.trans hz.symm) (q.1.2.trans hm.symm)
    have q2 := q.2.1
    have eT : cl_T e1 e2 d = 30 * k + ld - 1 := by omega
    have tt := t.mp eT
    exact ⟨tt.1, tt.2, (el eT).mp q.2.2⟩
  · intro q
    have eT := t.mpr ⟨q.1, q.2.1⟩
    have e : cl_k e1 e2 d = k := by omega
    exact ⟨⟨by rw [e]; exact hz, by rw [e]; exact hm⟩, by omega, (el eT).mpr q.2.2⟩
end
section
/-! the relation -/
def rl_cur (e1 e2 c : Nat) (yr mo ld fl : Int32) : Prop :=
  (c = 0 ∧ yr = 0 ∧ mo = 0 ∧ ld = 0 ∧ fl = 0) ∨
  (950 ≤ c ∧ c ≤ 1900900 ∧ yr = nI ((cl_z e1 e2 (cl_k e1 e2 c) + 1) / 12) ∧ mo = nI ((cl_z e1 e2 (cl_k e1 e2 c) + 1) % 12 + 1) ∧ ld = nI (cl_T e1 e2 c % 30 + 1) ∧ fl = nI (cl_lm e1 e2 (cl_k e1 e2 c) + 2 * cl_ld e1 e2 c))
def rl_bd (k1 n : Nat) : Prop := n ≤ 13 ∧ (n = 0 ∨ (35 ≤ k1 ∧ k1 + n ≤ 64350))
/-- the relation at the head of a turn: the same epicycles and sines; one current day c (0: none), of which the component's fields are functions; the rows are the n lunations from k1 on -/
def i_Rel (k : Nat) (u : SX) (v : SY) : Prop := match u, v with
  | (f_leastDay, f_greatestDay, f_leastYear, f_greatestYear, f_sunTurns, f_moonTurns, f_anomalyTurns, f_mostRows, f_leapMark, f_sunEpicycle, f_moonEpicycle, f_currentDay, f_currentYear, f_currentMonth, f_currentLunarDay, f_currentFlags, f_rowCount, a_sine, a_lunations, a_names, a_conjunctions, a_firstDays, a_lengths, a_monthRows), (g_sun, g_moon, g_current, g_rowCount, b_s, b_firstDay, b_rowNames, _) =>
    ∃ e1 e2 c k1 n : Nat, cl_ok e1 e2 ∧ rl_cur e1 e2 c f_currentYear f_currentMonth f_currentLunarDay f_currentFlags ∧ rl_bd k1 n ∧ rw_X e1 e2 k1 n a_lunations a_names a_conjunctions a_firstDays a_lengths a_monthRows ∧ rw_Y e1 e2 k1 n b_firstDay b_rowNames ∧
    f_sunEpicycle = nI e1 ∧ f_moonEpicycle = nI e2 ∧ a_sine = ns_tb ∧ f_currentDay = nI c ∧ f_rowCount = nI n ∧ g_sun = nI e1 ∧ g_moon = nI e2 ∧ g_current = nI c ∧ g_rowCount = nI n ∧ b_s = ns_tb
theorem i_up {k : Nat} {u : SX} {v : SY} (h : i_Rel k u v) : i_Rel (k + 5) u v := h
section
variable {f_leastDay f_greatestDay f_leastYear f_greatestYear f_sunTurns f_moonTurns f_anomalyTurns f_mostRows f_leapMark f_currentYear f_currentMonth f_currentLunarDay f_currentFlags : Int32} {a_lunations a_names a_conjunctions a_firstDays a_lengths a_monthRows a_firstDay a_rowNames a_times : Nat → Int32}
theorem rl_in {e1 e2 c k1 n k : Nat} (H : cl_ok e1 e2) (hc : rl_cur e1 e2 c f_currentYear f_currentMonth f_currentLunarDay f_currentFlags) (hb : rl_bd k1 n) (hX : rw_X e1 e2 k1 n a_lunations a_names a_conjunctions a_firstDays a_lengths a_monthRows) (hY : rw_Y e1 e2 k1 n a_firstDay a_rowNames) : i_Rel k (f_leastDay, f_greatestDay, f_leastYear, f_greatestYear, f_sunTurns, f_moonTurns, f_anomalyTurns, f_mostRows, f_leapMark, nI e1, nI e2, nI c, f_currentYear, f_currentMonth, f_currentLunarDay, f_currentFlags, nI n, ns_tb, a_lunations, a_names, a_conjunctions, a_firstDays, a_lengths, a_monthRows) (nI e1, nI e2, nI c, nI n, ns_tb, a_firstDay, a_rowNames, a_times) :=
  ⟨e1, e2, c, k1, n, H, hc, hb, hX, hY, rfl, rfl, rfl, rfl, rfl, rfl, rfl, rfl, rfl, rfl⟩
end
theorem rl_el {k : Nat} {P : SX → SY → Prop} {u : SX} {v : SY} (h : ∀ (f_leastDay f_greatestDay f_leastYear f_greatestYear f_sunTurns f_moonTurns f_anomalyTurns f_mostRows f_leapMark f_currentYear f_currentMonth f_currentLunarDay f_currentFlags : Int32) (a_lunations a_names a_conjunctions a_firstDays a_lengths a_monthRows a_firstDay a_rowNames a_times : Nat → Int32) (e1 e2 c k1 n : Nat), cl_ok e1 e2 → rl_cur e1 e2 c f_currentYear f_currentMonth f_currentLunarDay f_currentFlags → rl_bd k1 n → rw_X e1 e2 k1 n a_lunations a_names a_conjunctions a_firstDays a_lengths a_monthRows → rw_Y e1 e2 k1 n a_firstDay a_rowNames → P (f_leastDay, f_greatestDay, f_leastYear, f_greatestYear, f_sunTurns, f_moonTurns, f_anomalyTurns, f_mostRows, f_leapMark, nI e1, nI e2, nI c, f_currentYear, f_currentMonth, f_currentLunarDay, f_currentFlags, nI n, ns_tb, a_lunations, a_names, a_conjunctions, a_firstDays, a_lengths, a_monthRows) (nI e1, nI e2, nI c, nI n, ns_tb, a_firstDay, a_rowNames, a_times)) (I : i_Rel k u v) : P u v := by
  obtain ⟨x0, x1, x2, x3, x4, x5, x6, x7, x8, x9, x10, x11, x12, x13, x14, x15, x16, x17, x18, x19, x20, x21, x22, x23⟩ := u
  obtain ⟨y0, y1, y2, y3, y4, y5, y6, y7⟩ := v
  obtain ⟨e1, e2, c, k1, n, H, hc, hb, hX, hY, rfl, rfl, rfl, rfl, rfl, rfl, rfl, rfl, rfl, rfl⟩ := I
  exact h _ _ _ _ _ _ _ _ _ _ _ _ _ _ _ _ _ _ _ _ _ _ e1 e2 c k1 n H hc hb hX hY

/-! the constructors -/
theorem rl_clamp (p : Int32) (G : Nat) (hG : G < 2 ^ 31) : ∃ e, e ≤ G ∧ ∀ Q : Int32 → Prop, Q (nI e) → ((0 ≤ p → ((p ≤ nI G → Q p) ∧ (¬ p ≤ nI G → Q (nI G)))) ∧ (¬ 0 ≤ p → Q 0)) := by
  by_cases h0 : 0 ≤ p
  · by_cases h1 : p ≤ nI G
    · obtain ⟨j, hj, rfl⟩ := nI_of2 (n := G) (nI_toInt hG) (Int32.not_lt.mpr h0) h1
      exact ⟨j, hj, fun Q hQ => br_t h0 (br_t h1 hQ)⟩
    · exact ⟨G, Nat.le_refl _, fun Q hQ => br_t h0 (br_f h1 hQ)⟩
  · exact ⟨0, Nat.zero_le _, fun Q hQ => br_f h0 hQ⟩
section
variable {f_leastDay f_greatestDay f_leastYear f_greatestYear f_sunTurns f_moonTurns f_anomalyTurns f_mostRows f_leapMark f_sunEpicycle f_moonEpicycle f_currentDay f_currentYear f_currentMonth f_currentLunarDay f_currentFlags f_rowCount : Int32} {a_sine a_lunations a_names a_conjunctions a_firstDays a_lengths a_monthRows : Nat → Int32}
theorem xq_clamp {post : Int32 → Prop} {p : Int32} {e : Nat} (G : Nat) (c : ∀ Q : Int32 → Prop, Q (nI e) → ((0 ≤ p → ((p ≤ nI G → Q p) ∧ (¬ p ≤ nI G → Q (nI G)))) ∧ (¬ 0 ≤ p → Q 0))) (h : post (nI e)) : wpX_clamp post (f_leastDay, f_greatestDay, f_leastYear, f_greatestYear, f_sunTurns, f_moonTurns, f_anomalyTurns, f_mostRows, f_leapMark, f_sunEpicycle, f_moonEpicycle, f_currentDay, f_currentYear, f_currentMonth, f_currentLunarDay, f_currentFlags, f_rowCount, a_sine, a_lunations, a_names, a_conjunctions, a_firstDays, a_lengths, a_monthRows) p (nI G) := c post h
theorem xq_ps {post : SX → Prop} {p1 p2 p3 p4 p5 : Int32} (i : Nat) (hi : i ≤ 20) (h : post (f_leastDay, f_greatestDay, f_leastYear, f_greatestYear, f_sunTurns, f_moonTurns, f_anomalyTurns, f_mostRows, f_leapMark, f_sunEpicycle, f_moonEpicycle, f_currentDay, f_currentYear, f_currentMonth, f_currentLunarDay, f_currentFlags, f_rowCount, upd (upd (upd (upd (upd a_sine i p1) (i + 1) p2) (i + 2) p3) (i + 3) p4) (i + 4) p5, a_lunations, a_names, a_conjunctions, a_firstDays, a_lengths, a_monthRows)) : wpX_putSines post (f_leastDay, f_greatestDay, f_leastYear, f_greatestYear, f_sunTurns, f_moonTurns, f_anomalyTurns, f_mostRows, f_leapMark, f_sunEpicycle, f_moonEpicycle, f_currentDay, f_currentYear, f_currentMonth, f_currentLunarDay, f_currentFlags, f_rowCount, a_sine, a_lunations, a_names, a_conjunctions, a_firstDays, a_lengths, a_monthRows) (nI i) p1 p2 p3 p4 p5 := by
  have k1 : nI i + 1 = nI (i + 1) := nI_add i 1
  have k2 : nI i + 2 = nI (i + 2) := nI_add i 2
  have k3 : nI i + 3 = nI (i + 3) := nI_add i 3
  have k4 : nI i + 4 = nI (i + 4) := nI_add i 4
  refine br_f (nI_pos (by omega)) (br_t (nI_le (b := 20) hi (by decide)) ?_)
  refine And.intro (pk_in i 25 (by omega)) (nm_r (e' := upd a_sine i p1) (by rw [nI_clamp (by omega)]) ?_)
  refine And.intro (pk_in (i + 1) 25 (by omega) k1) (nm_r (e' := upd (upd a_sine i p1) (i + 1) p2) (by rw [k1, nI_clamp (by omega)]) ?_)
  refine And.intro (pk_in (i + 2) 25 (by omega) k2) (nm_r (e' := upd (upd (upd a_sine i p1) (i + 1) p2) (i + 2) p3) (by rw [k2, nI_clamp (by omega)]) ?_)
  refine And.intro (pk_in (i + 3) 25 (by omega) k3) (nm_r (e' := upd (upd (upd (upd a_sine i p1) (i + 1) p2) (i + 2) p3) (i + 3) p4) (by rw [k3, nI_clamp (by omega)]) ?_)
  exact And.intro (pk_in (i + 4) 25 (by omega) k4) (nm_r (e' := upd (upd (upd (upd (upd a_sine i p1) (i + 1) p2) (i + 2) p3) (i + 3) p4) (i + 4) p5) (by rw [k4, nI_clamp (by omega)]) h)
end
section
variable {f_sunEpicycle f_moonEpicycle f_current f_rowCount : Int32} {a_s a_firstDay a_rowNames a_times : Nat → Int32}
theorem yq_81i {post : SY → Prop} {z : Int32} (h : post (f_sunEpicycle, z, f_current, f_rowCount, ns_tb, a_firstDay, a_rowNames, a_times)) : wY_init_81 post z f_sunEpicycle f_moonEpicycle f_current f_rowCount (fun _ => 0) a_firstDay a_rowNames a_times := by
  unfold wY_init_81
  repeat refine nm_e ?_
  exact h
end
theorem yq_init {post : SY → Prop} {p q : Int32} {e1 e2 : Nat} (c1 : ∀ Q : Int32 → Prop, Q (nI e1) → ((0 ≤ p → ((p ≤ nI 28 → Q p) ∧ (¬ p ≤ nI 28 → Q (nI 28)))) ∧ (¬ 0 ≤ p → Q 0))) (c2 : ∀ Q : Int32 → Prop, Q (nI e2) → ((0 ≤ q → ((q ≤ nI 36 → Q q) ∧ (¬ q ≤ nI 36 → Q (nI 36)))) ∧ (¬ 0 ≤ q → Q 0)))
    (h : post (nI e1, nI e2, 0, 0, ns_tb, (fun _ => 0), (fun _ => 0), (fun _ => 0))) : wpY_init post p q :=
  c1 (fun z => wY_init_57 post q z 0 0 0 0 (fun _ => 0) (fun _ => 0) (fun _ => 0) (fun _ => 0)) (c2 (fun w => wY_init_81 post w (nI e1) 0 0 0 (fun _ => 0) (fun _ => 0) (fun _ => 0) (fun _ => 0)) (yq_81i h))
theorem i_vc0 (k0 : Int32) (k1 : Int32) : wpX_init (fun u => wpY_init (fun v => i_Rel 2 u v) k0 k1) k0 k1 := by
  obtain ⟨e1, h1, c1⟩ := rl_clamp k0 28 (by decide)
  obtain ⟨e2, h2, c2⟩ := rl_clamp k1 36 (by decide)
  have H : cl_ok e1 e2 := ⟨h1, h2⟩
  unfold wpX_init
  refine xq_clamp 28 c1 ?_
  refine xq_clamp 36 c2 ?_
  refine xq_ps 0 (by decide) ?_
  refine xq_ps 5 (by decide) ?_
  refine xq_ps 10 (by decide) ?_
  refine xq_ps 15 (by decide) ?_
  refine xq_ps 20 (by decide) ?_
  refine yq_init c1 c2 ?_
  exact rl_in (c := 0) (k1 := 0) (n := 0) H (Or.inl ⟨rfl, rfl, rfl, rfl, rfl⟩) ⟨by decide, Or.inl rfl⟩ (rw_X0 (fun _ _ => rfl)) (fun i hi => absurd hi (by omega))
end
section
/-! the owed statements but goName, build, findDay -/
section
variable {f_leastDay f_greatestDay f_leastYear f_greatestYear f_sunTurns f_moonTurns f_anomalyTurns f_mostRows f_leapMark f_sunEpicycle f_moonEpicycle f_currentDay f_currentYear f_currentMonth f_currentLunarDay f_currentFlags f_rowCount : Int32} {a_sine a_lunations a_names a_conjunctions a_firstDays a_lengths a_monthRows : Nat → Int32}
theorem xq_ir0 {post : Int32 → Prop} {p : Int32} {n : Nat} (h : p < 0 ∨ nI n ≤ p) (hp : post 0) : wpX_isRow post (f_leastDay, f_greatestDay, f_leastYear, f_greatestYear, f_sunTurns, f_moonTurns, f_anomalyTurns, f_mostRows, f_leapMark, f_sunEpicycle, f_moonEpicycle, f_currentDay, f_currentYear, f_currentMonth, f_currentLunarDay, f_currentFlags, nI n, a_sine, a_lunations, a_names, a_conjunctions, a_firstDays, a_lengths, a_monthRows) p :=
  br_c (fun _ => hp) (fun h0 => br_c (fun _ => hp) (fun h1 => absurd h (fun z => z.elim h0 h1)))
theorem xq_ir1 {post : Int32 → Prop} {i n : Nat} (hi : i < n) (hn : n ≤ 13) (hp : post 1) : wpX_isRow post (f_leastDay, f_greatestDay, f_leastYear, f_greatestYear, f_sunTurns, f_moonTurns, f_anomalyTurns, f_mostRows, f_leapMark, f_sunEpicycle, f_moonEpicycle, f_currentDay, f_currentYear, f_currentMonth, f_currentLunarDay, f_currentFlags, nI n, a_sine, a_lunations, a_names, a_conjunctions, a_firstDays, a_lengths, a_monthRows) (nI i) :=
  br_f (nI_pos (by omega)) (br_f (nI_ge hi (by omega)) (br_f (nI_ge (b := 13) (by omega) (by decide)) hp))
end
theorem rl_o3 {p : Int32} {n : Nat} {A B : Prop} (h : p < 0 ∨ nI n ≤ p) (hA : A) : (p < 0 → A) ∧ (¬ p < 0 → ((p < nI n → B) ∧ (¬ p < nI n → A))) :=
  br_c (fun _ => hA) (fun h0 => br_c (fun h1 => absurd h (fun z => z.elim h0 (Int32.not_le.mpr h1))) (fun _ => hA))
theorem rl_i3 {i n : Nat} {A B : Prop} (hi : i < n) (hn : n ≤ 13) (hB : B) : (nI i < 0 → A) ∧ (¬ nI i < 0 → ((nI i < nI n → B) ∧ (¬ nI i < nI n → A))) :=
  br_f (nI_pos (by omega)) (br_t (nI_lt hi (by omega)) hB)
theorem rl_o4 {p : Int32} {n : Nat} {A B : Prop} (h : p < 0 ∨ nI n ≤ p) (hA : A) : (p < 0 → A) ∧ (¬ p < 0 → ((nI n ≤ p → A) ∧ (¬ nI n ≤ p → B))) :=
  br_c (fun _ => hA) (fun h0 => br_c (fun _ => hA) (fun h1 => absurd h (fun z => z.elim h0 h1)))
theorem rl_i4 {i n : Nat} {A B : Prop} (hi : i < n) (hn : n ≤ 13) (hB : B) : (nI i < 0 → A) ∧ (¬ nI i < 0 → ((nI n ≤ nI i → A) ∧ (¬ nI n ≤ nI i → B))) :=
  br_f (nI_pos (by omega)) (br_f (nI_ge hi (by omega)) hB)
theorem rl_row (x : Int32) {n : Nat} (hn : n ≤ 13) : (x < 0 ∨ nI n ≤ x) ∨ ∃ i, i < n ∧ x = nI i := by
  rcases pk_ix x (n := n) (by omega) with h | h | h
  · exact Or.inl (Or.inl h)
  · exact Or.inl (Or.inr h)
  · exact Or.inr h
theorem i_vc_longitude {k : Nat} {u : SX} {v : SY} (I : i_Rel k u v) (hk : k + 5 ≤ 2562) (v1 : Int32) (v2 : Int32) (v3 : Int32) : wpX_longitude (fun r => wpY_longitude (fun r' => r' = r ∧ i_Rel (k + 5) u v) v v1 v2 v3) u v1 v2 v3 := by
  refine rl_el (P := fun u v => wpX_longitude (fun r => wpY_longitude (fun r' => r' = r ∧ i_Rel (k + 5) u v) v v1 v2 v3) u v1 v2 v3) ?_ I
  intro f_leastDay f_greatestDay f_leastYear f_greatestYear f_sunTurns f_moonTurns f_anomalyTurns f_mostRows f_leapMark f_currentYear f_currentMonth f_currentLunarDay f_currentFlags a_lunations a_names a_conjunctions a_firstDays a_lengths a_monthRows a_firstDay a_rowNames a_times e1 e2 c k1 n H hc hb hX hY
  have R : i_Rel (k + 5) (f_leastDay, f_greatestDay, f_leastYear, f_greatestYear, f_sunTurns, f_moonTurns, f_anomalyTurns, f_mostRows, f_leapMark, nI e1, nI e2, nI c, f_currentYear, f_currentMonth, f_currentLunarDay, f_currentFlags, nI n, ns_tb, a_lunations, a_names, a_conjunctions, a_firstDays, a_lengths, a_monthRows) (nI e1, nI e2, nI c, nI n, ns_tb, a_firstDay, a_rowNames, a_times) := rl_in H hc hb hX hY
  unfold wpX_longitude
  dsimp only
  rcases rl_rng v1 0 2 (by decide) (by decide) with o1 | ⟨b, b1, b2, rfl, p1, p2⟩
  · exact xq_w0 o1 (br_t rfl (rl_o1 o1 (And.intro rfl R)))
  rcases rl_rng v3 0 59 (by decide) (by decide) with o3 | ⟨g, g1, g2, rfl, q1, q2⟩
  · refine xq_w1 p1 p2 (br_f (by decide) (xq_w0 o3 (br_t rfl (rl_i1 p1 p2 ?_))))
    rcases rl_rng v2 1000 1900000 (by decide) (by decide) with o2 | ⟨d, d1, d2, rfl, s1, s2⟩
    · exact rl_o1 o2 (And.intro rfl R)
    · exact rl_i1 s1 s2 (rl_o2 o3 (And.intro rfl R))
  rcases rl_rng v2 1000 1900000 (by decide) (by decide) with o2 | ⟨d, d1, d2, rfl, s1, s2⟩
  · exact xq_w1 p1 p2 (br_f (by decide) (xq_w1 q1 q2 (br_f (by decide) (xq_w0 o2 (br_t rfl (rl_i1 p1 p2 (rl_o1 o2 (And.intro rfl R))))))))
  have k60 : 60 * nI d = nI (60 * d) := pk_mul 60 d
  have kt : 60 * nI d + nI g = nI (60 * d + g) := by rw [k60, nI_add]
  refine xq_w1 p1 p2 (br_f (by decide) (xq_w1 q1 q2 (br_f (by decide) (xq_w1 s1 s2 (br_f (by decide) (xq_pl H b2 kt (by omega) (by omega) ?_))))))
  refine And.intro (by decide) (rl_i1 p1 p2 (rl_i1 s1 s2 (rl_i2 q1 q2 (yq_at H b2 kt (by omega) (by omega) ?_))))
  exact And.intro (by decide) (And.intro rfl R)
theorem i_vc_goDay {k : Nat} {u : SX} {v : SY} (I : i_Rel k u v) (hk : k + 5 ≤ 2562) (v1 : Int32) : wpX_goDay (fun r u' => wpY_goDay (fun r' v' => r' = r ∧ i_Rel (k + 5) u' v') v v1) u v1 := by
  refine rl_el (P := fun u v => wpX_goDay (fun r u' => wpY_goDay (fun r' v' => r' = r ∧ i_Rel (k + 5) u' v') v v1) u v1) ?_ I
  intro f_leastDay f_greatestDay f_leastYear f_greatestYear f_sunTurns f_moonTurns f_anomalyTurns f_mostRows f_leapMark f_currentYear f_currentMonth f_currentLunarDay f_currentFlags a_lunations a_names a_conjunctions a_firstDays a_lengths a_monthRows a_firstDay a_rowNames a_times e1 e2 c k1 n H hc hb hX hY
  have R : i_Rel (k + 5) (f_leastDay, f_greatestDay, f_leastYear, f_greatestYear, f_sunTurns, f_moonTurns, f_anomalyTurns, f_mostRows, f_leapMark, nI e1, nI e2, nI c, f_currentYear, f_currentMonth, f_currentLunarDay, f_currentFlags, nI n, ns_tb, a_lunations, a_names, a_conjunctions, a_firstDays, a_lengths, a_monthRows) (nI e1, nI e2, nI c, nI n, ns_tb, a_firstDay, a_rowNames, a_times) := rl_in H hc hb hX hY
  rcases rl_rng v1 1000 1900000 (by decide) (by decide) with o1 | ⟨d, d1, d2, rfl, p1, p2⟩
  · unfold wpX_goDay
    dsimp only
    exact xq_w0 o1 (br_t rfl (rl_o2 o1 (And.intro rfl R)))
  have kb := cl_kb H (d := d) (by omega) (by omega)
  have zb := cl_zb H (k := cl_k e1 e2 d) (by omega) (by omega)
  refine xq_goDay H d1 d2 (fun hn => ?_) (fun y1 y2 => ?_)
  · refine rl_i2 p1 p2 (yq_yr H rfl (by omega) (by omega) (rl_o2 ?_ (And.intro rfl R)))
    by_cases h4 : 4 ≤ (cl_z e1 e2 (cl_k e1 e2 d) + 1) / 12
    · exact Or.inr (nI_lt (a := 5200) (by omega) (by omega))
    · exact Or.inl (nI_lt (b := 4) (by omega) (by decide))
  · refine rl_i2 p1 p2 (yq_yr H rfl (by omega) (by omega) (rl_i2 (nI_nlt (b := 4) y1 (by omega)) (nI_nlt (a := 5200) y2 (by decide)) (And.intro rfl ?_)))
    exact rl_in H (Or.inr ⟨by omega, by omega, rfl, rfl, rfl, rfl⟩) hb hX hY
theorem i_vc_day {k : Nat} {u : SX} {v : SY} (I : i_Rel k u v) (hk : k + 5 ≤ 2562) : wpX_day (fun r => wpY_day (fun r' => r' = r ∧ i_Rel (k + 5) u v) v) u := by
  refine rl_el (P := fun u v => wpX_day (fun r => wpY_day (fun r' => r' = r ∧ i_Rel (k + 5) u v) v) u) ?_ I
  intro f_leastDay f_greatestDay f_leastYear f_greatestYear f_sunTurns f_moonTurns f_anomalyTurns f_mostRows f_leapMark f_currentYear f_currentMonth f_currentLunarDay f_currentFlags a_lunations a_names a_conjunctions a_firstDays a_lengths a_monthRows a_firstDay a_rowNames a_times e1 e2 c k1 n H hc hb hX hY
  exact And.intro rfl (rl_in H hc hb hX hY)
theorem i_vc_year {k : Nat} {u : SX} {v : SY} (I : i_Rel k u v) (hk : k + 5 ≤ 2562) : wpX_year (fun r => wpY_year (fun r' => r' = r ∧ i_Rel (k + 5) u v) v) u := by
  refine rl_el (P := fun u v => wpX_year (fun r => wpY_year (fun r' => r' = r ∧ i_Rel (k + 5) u v) v) u) ?_ I
  intro f_leastDay f_greatestDay f_leastYear f_greatestYear f_sunTurns f_moonTurns f_anomalyTurns f_mostRows f_leapMark f_currentYear f_currentMonth f_currentLunarDay f_currentFlags a_lunations a_names a_conjunctions a_firstDays a_lengths a_monthRows a_firstDay a_rowNames a_times e1 e2 c k1 n H hc hb hX hY
  have R : i_Rel (k + 5) (f_leastDay, f_greatestDay, f_leastYear, f_greatestYear, f_sunTurns, f_moonTurns, f_anomalyTurns, f_mostRows, f_leapMark, nI e1, nI e2, nI c, f_currentYear, f_currentMonth, f_currentLunarDay, f_currentFlags, nI n, ns_tb, a_lunations, a_names, a_conjunctions, a_firstDays, a_lengths, a_monthRows) (nI e1, nI e2, nI c, nI n, ns_tb, a_firstDay, a_rowNames, a_times) := rl_in H hc hb hX hY
  rcases hc with ⟨rfl, rfl, rfl, rfl, rfl⟩ | ⟨h1, h2, rfl, rfl, rfl, rfl⟩
  · exact br_t rfl (And.intro rfl R)
  · exact br_f (nI_ne0 (by omega) (by omega)) (yq_yr H rfl h1 h2 (And.intro rfl R))
theorem i_vc_month {k : Nat} {u : SX} {v : SY} (I : i_Rel k u v) (hk : k + 5 ≤ 2562) : wpX_month (fun r => wpY_month (fun r' => r' = r ∧ i_Rel (k + 5) u v) v) u := by
  refine rl_el (P := fun u v => wpX_month (fun r => wpY_month (fun r' => r' = r ∧ i_Rel (k + 5) u v) v) u) ?_ I
  intro f_leastDay f_greatestDay f_leastYear f_greatestYear f_sunTurns f_moonTurns f_anomalyTurns f_mostRows f_leapMark f_currentYear f_currentMonth f_currentLunarDay f_currentFlags a_lunations a_names a_conjunctions a_firstDays a_lengths a_monthRows a_firstDay a_rowNames a_times e1 e2 c k1 n H hc hb hX hY
  have R : i_Rel (k + 5) (f_leastDay, f_greatestDay, f_leastYear, f_greatestYear, f_sunTurns, f_moonTurns, f_anomalyTurns, f_mostRows, f_leapMark, nI e1, nI e2, nI c, f_currentYear, f_currentMonth, f_currentLunarDay, f_currentFlags, nI n, ns_tb, a_lunations, a_names, a_conjunctions, a_firstDays, a_lengths, a_monthRows) (nI e1, nI e2, nI c, nI n, ns_tb, a_firstDay, a_rowNames, a_times) := rl_in H hc hb hX hY
  rcases hc with ⟨rfl, rfl, rfl, rfl, rfl⟩ | ⟨h1, h2, rfl, rfl, rfl, rfl⟩
  · exact br_t rfl (And.intro rfl R)
  · exact br_f (nI_ne0 (by omega) (by omega)) (yq_mo H rfl h1 h2 (And.intro rfl R))
theorem i_vc_lunarDay {k : Nat} {u : SX} {v : SY} (I : i_Rel k u v) (hk : k + 5 ≤ 2562) : wpX_lunarDay (fun r => wpY_lunarDay (fun r' => r' = r ∧ i_Rel (k + 5) u v) v) u := by
  refine rl_el (P := fun u v => wpX_lunarDay (fun r => wpY_lunarDay (fun r' => r' = r ∧ i_Rel (k + 5) u v) v) u) ?_ I
  intro f_leastDay f_greatestDay f_leastYear f_greatestYear f_sunTurns f_moonTurns f_anomalyTurns f_mostRows f_leapMark f_currentYear f_currentMonth f_currentLunarDay f_currentFlags a_lunations a_names a_conjunctions a_firstDays a_lengths a_monthRows a_firstDay a_rowNames a_times e1 e2 c k1 n H hc hb hX hY
  have R : i_Rel (k + 5) (f_leastDay, f_greatestDay, f_leastYear, f_greatestYear, f_sunTurns, f_moonTurns, f_anomalyTurns, f_mostRows, f_leapMark, nI e1, nI e2, nI c, f_currentYear, f_currentMonth, f_currentLunarDay, f_currentFlags, nI n, ns_tb, a_lunations, a_names, a_conjunctions, a_firstDays, a_lengths, a_monthRows) (nI e1, nI e2, nI c, nI n, ns_tb, a_firstDay, a_rowNames, a_times) := rl_in H hc hb hX hY
  rcases hc with ⟨rfl, rfl, rfl, rfl, rfl⟩ | ⟨h1, h2, rfl, rfl, rfl, rfl⟩
  · exact br_t rfl (And.intro rfl R)
  · exact br_f (nI_ne0 (by omega) (by omega)) (yq_lc H rfl (by omega) (by omega) (And.intro (by decide) (And.intro (nx_r30 (nx_Tb H (by omega))) R)))
theorem i_vc_flags {k : Nat} {u : SX} {v : SY} (I : i_Rel k u v) (hk : k + 5 ≤ 2562) : wpX_flags (fun r => wpY_flags (fun r' => r' = r ∧ i_Rel (k + 5) u v) v) u := by
  refine rl_el (P := fun u v => wpX_flags (fun r => wpY_flags (fun r' => r' = r ∧ i_Rel (k + 5) u v) v) u) ?_ I
  intro f_leastDay f_greatestDay f_leastYear f_greatestYear f_sunTurns f_moonTurns f_anomalyTurns f_mostRows f_leapMark f_currentYear f_currentMonth f_currentLunarDay f_currentFlags a_lunations a_names a_conjunctions a_firstDays a_lengths a_monthRows a_firstDay a_rowNames a_times e1 e2 c k1 n H hc hb hX hY
  have R : i_Rel (k + 5) (f_leastDay, f_greatestDay, f_leastYear, f_greatestYear, f_sunTurns, f_moonTurns, f_anomalyTurns, f_mostRows, f_leapMark, nI e1, nI e2, nI c, f_currentYear, f_currentMonth, f_currentLunarDay, f_currentFlags, nI n, ns_tb, a_lunations, a_names, a_conjunctions, a_firstDays, a_lengths, a_monthRows) (nI e1, nI e2, nI c, nI n, ns_tb, a_firstDay, a_rowNames, a_times) := rl_in H hc hb hX hY
  rcases hc with ⟨rfl, rfl, rfl, rfl, rfl⟩ | ⟨h1, h2, rfl, rfl, rfl, rfl⟩
  · exact br_t rfl (And.intro rfl R)
  · have k2 : 2 * nI (cl_ld e1 e2 c) = nI (2 * cl_ld e1 e2 c) := pk_mul 2 _
    exact br_f (nI_ne0 (by omega) (by omega)) (yq_lm H rfl h1 h2 (yq_ld H rfl h1 h2 (And.intro (by rw [k2, nI_add]) R)))
theorem i_vc_rows {k : Nat} {u : SX} {v : SY} (I : i_Rel k u v) (hk : k + 5 ≤ 2562) : wpX_rows (fun r => wpY_rows (fun r' => r' = r ∧ i_Rel (k + 5) u v) v) u := by
  refine rl_el (P := fun u v => wpX_rows (fun r => wpY_rows (fun r' => r' = r ∧ i_Rel (k + 5) u v) v) u) ?_ I
  intro f_leastDay f_greatestDay f_leastYear f_greatestYear f_sunTurns f_moonTurns f_anomalyTurns f_mostRows f_leapMark f_currentYear f_currentMonth f_currentLunarDay f_currentFlags a_lunations a_names a_conjunctions a_firstDays a_lengths a_monthRows a_firstDay a_rowNames a_times e1 e2 c k1 n H hc hb hX hY
  exact And.intro rfl (rl_in H hc hb hX hY)
theorem i_vc_rowName {k : Nat} {u : SX} {v : SY} (I : i_Rel k u v) (hk : k + 5 ≤ 2562) (v1 : Int32) : wpX_rowName (fun r => wpY_rowName (fun r' => r' = r ∧ i_Rel (k + 5) u v) v v1) u v1 := by
  refine rl_el (P := fun u v => wpX_rowName (fun r => wpY_rowName (fun r' => r' = r ∧ i_Rel (k + 5) u v) v v1) u v1) ?_ I
  intro f_leastDay f_greatestDay f_leastYear f_greatestYear f_sunTurns f_moonTurns f_anomalyTurns f_mostRows f_leapMark f_currentYear f_currentMonth f_currentLunarDay f_currentFlags a_lunations a_names a_conjunctions a_firstDays a_lengths a_monthRows a_firstDay a_rowNames a_times e1 e2 c k1 n H hc hb hX hY
  have R : i_Rel (k + 5) (f_leastDay, f_greatestDay, f_leastYear, f_greatestYear, f_sunTurns, f_moonTurns, f_anomalyTurns, f_mostRows, f_leapMark, nI e1, nI e2, nI c, f_currentYear, f_currentMonth, f_currentLunarDay, f_currentFlags, nI n, ns_tb, a_lunations, a_names, a_conjunctions, a_firstDays, a_lengths, a_monthRows) (nI e1, nI e2, nI c, nI n, ns_tb, a_firstDay, a_rowNames, a_times) := rl_in H hc hb hX hY
  unfold wpX_rowName
  dsimp only
  rcases rl_row v1 hb.1 with o | ⟨i, hi, rfl⟩
  · exact xq_ir0 o (br_t rfl (rl_o3 o (And.intro rfl R)))
  · have hb1 := hb.1
    have hx := hX.1 i hi
    have hy := hY i hi
    refine xq_ir1 hi hb.1 (br_f (by decide) (And.intro (pk_in i 13 (by omega)) (rl_i3 hi hb.1 (And.intro (pk_in i 16 (by omega)) (And.intro ?_ R)))))
    rw [nI_clamp (by omega), hx.2.1, hy.2]
theorem i_vc_rowFirst {k : Nat} {u : SX} {v : SY} (I : i_Rel k u v) (hk : k + 5 ≤ 2562) (v1 : Int32) : wpX_rowFirst (fun r => wpY_rowFirst (fun r' => r' = r ∧ i_Rel (k + 5) u v) v v1) u v1 := by
  refine rl_el (P := fun u v => wpX_rowFirst (fun r => wpY_rowFirst (fun r' => r' = r ∧ i_Rel (k + 5) u v) v v1) u v1) ?_ I
  intro f_leastDay f_greatestDay f_leastYear f_greatestYear f_sunTurns f_moonTurns f_anomalyTurns f_mostRows f_leapMark f_currentYear f_currentMonth f_currentLunarDay f_currentFlags a_lunations a_names a_conjunctions a_firstDays a_lengths a_monthRows a_firstDay a_rowNames a_times e1 e2 c k1 n H hc hb hX hY
  have R : i_Rel (k + 5) (f_leastDay, f_greatestDay, f_leastYear, f_greatestYear, f_sunTurns, f_moonTurns, f_anomalyTurns, f_mostRows, f_leapMark, nI e1, nI e2, nI c, f_currentYear, f_currentMonth, f_currentLunarDay, f_currentFlags, nI n, ns_tb, a_lunations, a_names, a_conjunctions, a_firstDays, a_lengths, a_monthRows) (nI e1, nI e2, nI c, nI n, ns_tb, a_firstDay, a_rowNames, a_times) := rl_in H hc hb hX hY
  unfold wpX_rowFirst
  dsimp only
  rcases rl_row v1 hb.1 with o | ⟨i, hi, rfl⟩
  · exact xq_ir0 o (br_t rfl (rl_o3 o (And.intro rfl R)))
  · have hb1 := hb.1
    have hx := hX.1 i hi
    have hy := hY i hi
    refine xq_ir1 hi hb.1 (br_f (by decide) (And.intro (pk_in i 13 (by omega)) (rl_i3 hi hb.1 (And.intro (pk_in i 16 (by omega)) (And.intro ?_ R)))))
    rw [nI_clamp (by omega), hx.2.2.2.1, hy.1]
theorem rl_rk {e1 e2 k1 n i : Nat} (H : cl_ok e1 e2) (hb : rl_bd k1 n) (hi : i < n) : 35 ≤ k1 + i ∧ k1 + i ≤ 64350 ∧ 1000 ≤ cl_O e1 e2 (30 * (k1 + i)) ∧ cl_O e1 e2 (30 * (k1 + i)) ≤ 1900400 ∧ cl_k e1 e2 (cl_O e1 e2 (30 * (k1 + i))) = k1 + i := by
  obtain ⟨b1, b2⟩ := hb
  have b : 35 ≤ k1 ∧ k1 + n ≤ 64350 := by
    rcases b2 with z | z
    · omega
    · exact z
  have ob := cl_Ob H (k := k1 + i) (by omega) (by omega)
  have lo := cl_lenO H (k := k1 + i) (by omega)
  exact ⟨by omega, by omega, ob.1, ob.2, (cl_kk H (by omega) _).mpr ⟨Nat.le_refl _, by omega⟩⟩
theorem i_vc_rowConjunction {k : Nat} {u : SX} {v : SY} (I : i_Rel k u v) (hk : k + 5 ≤ 2562) (v1 : Int32) : wpX_rowConjunction (fun r => wpY_rowConjunction (fun r' => r' = r ∧ i_Rel (k + 5) u v) v v1) u v1 := by
  refine rl_el (P := fun u v => wpX_rowConjunction (fun r => wpY_rowConjunction (fun r' => r' = r ∧ i_Rel (k + 5) u v) v v1) u v1) ?_ I
  intro f_leastDay f_greatestDay f_leastYear f_greatestYear f_sunTurns f_moonTurns f_anomalyTurns f_mostRows f_leapMark f_currentYear f_currentMonth f_currentLunarDay f_currentFlags a_lunations a_names a_conjunctions a_firstDays a_lengths a_monthRows a_firstDay a_rowNames a_times e1 e2 c k1 n H hc hb hX hY
  have R : i_Rel (k + 5) (f_leastDay, f_greatestDay, f_leastYear, f_greatestYear, f_sunTurns, f_moonTurns, f_anomalyTurns, f_mostRows, f_leapMark, nI e1, nI e2, nI c, f_currentYear, f_currentMonth, f_currentLunarDay, f_currentFlags, nI n, ns_tb, a_lunations, a_names, a_conjunctions, a_firstDays, a_lengths, a_monthRows) (nI e1, nI e2, nI c, nI n, ns_tb, a_firstDay, a_rowNames, a_times) := rl_in H hc hb hX hY
  unfold wpX_rowConjunction
  dsimp only
  rcases rl_row v1 hb.1 with o | ⟨i, hi, rfl⟩
  · exact xq_ir0 o (br_t rfl (rl_o3 o (And.intro rfl R)))
  · have hb1 := hb.1
    have hx := hX.1 i hi
    have hy := hY i hi
    have rk := rl_rk H hb hi
    have ef : a_firstDay (nI i).toNatClampNeg = nI (cl_O e1 e2 (30 * (k1 + i))) := by
      rw [nI_clamp (by omega)]
      exact hy.1
    refine xq_ir1 hi hb.1 (br_f (by decide) (And.intro (pk_in i 13 (by omega)) (rl_i3 hi hb.1 (And.intro (pk_in i 16 (by omega)) ?_))))
    refine yq_lc H ef (by omega) (by omega) (And.intro (by decide) (nm_r (nx_k H (by omega)) (And.intro (pk_in i 16 (by omega)) ?_)))
    refine yq_cjd H (a := 0) rfl ef (by decide) (by omega) (by omega) (And.intro ?_ R)
    rw [Nat.add_zero, rk.2.2.2.2, nI_clamp (by omega)]
    exact hx.2.2.1.symm
theorem i_vc_rowLength {k : Nat} {u : SX} {v : SY} (I : i_Rel k u v) (hk : k + 5 ≤ 2562) (v1 : Int32) : wpX_rowLength (fun r => wpY_rowLength (fun r' => r' = r ∧ i_Rel (k + 5) u v) v v1) u v1 := by
  refine rl_el (P := fun u v => wpX_rowLength (fun r => wpY_rowLength (fun r' => r' = r ∧ i_Rel (k + 5) u v) v v1) u v1) ?_ I
  intro f_leastDay f_greatestDay f_leastYear f_greatestYear f_sunTurns f_moonTurns f_anomalyTurns f_mostRows f_leapMark f_currentYear f_currentMonth f_currentLunarDay f_currentFlags a_lunations a_names a_conjunctions a_firstDays a_lengths a_monthRows a_firstDay a_rowNames a_times e1 e2 c k1 n H hc hb hX hY
  have R : i_Rel (k + 5) (f_leastDay, f_greatestDay, f_leastYear, f_greatestYear, f_sunTurns, f_moonTurns, f_anomalyTurns, f_mostRows, f_leapMark, nI e1, nI e2, nI c, f_currentYear, f_currentMonth, f_currentLunarDay, f_currentFlags, nI n, ns_tb, a_lunations, a_names, a_conjunctions, a_firstDays, a_lengths, a_monthRows) (nI e1, nI e2, nI c, nI n, ns_tb, a_firstDay, a_rowNames, a_times) := rl_in H hc hb hX hY
  unfold wpX_rowLength
  dsimp only
  rcases rl_row v1 hb.1 with o | ⟨i, hi, rfl⟩
  · exact xq_ir0 o (br_t rfl (rl_o3 o (And.intro rfl R)))
  · have hb1 := hb.1
    have hx := hX.1 i hi
    have hy := hY i hi
    have rk := rl_rk H hb hi
    have ef : a_firstDay (nI i).toNatClampNeg = nI (cl_O e1 e2 (30 * (k1 + i))) := by
      rw [nI_clamp (by omega)]
      exact hy.1
    refine xq_ir1 hi hb.1 (br_f (by decide) (And.intro (pk_in i 13 (by omega)) (rl_i3 hi hb.1 (And.intro (pk_in i 16 (by omega)) (nm_r ef ?_)))))
    refine yq_lc H rfl (by omega) (by omega) (And.intro (by decide) (nm_r (e' := nI (k1 + i)) ((nx_k H (by omega)).trans (congrArg nI rk.2.2.2.2)) ⟨46, ?_⟩))
    have lo := cl_lenO H (k := k1 + i) (by omega)
    have K := yq_36 (post := fun r' => r' = a_lengths (nI i).toNatClampNeg ∧ i_Rel (k + 5) (f_leastDay, f_greatestDay, f_leastYear, f_greatestYear, f_sunTurns, f_moonTurns, f_anomalyTurns, f_mostRows, f_leapMark, nI e1, nI e2, nI c, f_currentYear, f_currentMonth, f_currentLunarDay, f_currentFlags, nI n, ns_tb, a_lunations, a_names, a_conjunctions, a_firstDays, a_lengths, a_monthRows) (nI e1, nI e2, nI c, nI n, ns_tb, a_firstDay, a_rowNames, a_times)) (f_current := nI c) (f_rowCount := nI n) (a_firstDay := a_firstDay) (a_rowNames := a_rowNames) (a_times := a_times) H (k := k1 + i) rk.1 rk.2.1 rfl (And.intro (by rw [nI_clamp (by omega)]; exact hx.2.2.2.2.symm) R) 45 46 (cl_O e1 e2 (30 * (k1 + i))) (by omega) (by omega) (Nat.le_refl _)
    rw [show min (cl_O e1 e2 (30 * (k1 + i))) (cl_O e1 e2 (30 * (k1 + i + 1))) - cl_O e1 e2 (30 * (k1 + i)) = 0 by omega] at K
    exact K
theorem i_vc_occurrences {k : Nat} {u : SX} {v : SY} (I : i_Rel k u v) (hk : k + 5 ≤ 2562) (v1 : Int32) : wpX_occurrences (fun r => wpY_occurrences (fun r' => r' = r ∧ i_Rel (k + 5) u v) v v1) u v1 := by
  refine rl_el (P := fun u v => wpX_occurrences (fun r => wpY_occurrences (fun r' => r' = r ∧ i_Rel (k + 5) u v) v v1) u v1) ?_ I
  intro f_leastDay f_greatestDay f_leastYear f_greatestYear f_sunTurns f_moonTurns f_anomalyTurns f_mostRows f_leapMark f_currentYear f_currentMonth f_currentLunarDay f_currentFlags a_lunations a_names a_conjunctions a_firstDays a_lengths a_monthRows a_firstDay a_rowNames a_times e1 e2 c k1 n H hc hb hX hY
  have R : i_Rel (k + 5) (f_leastDay, f_greatestDay, f_leastYear, f_greatestYear, f_sunTurns, f_moonTurns, f_anomalyTurns, f_mostRows, f_leapMark, nI e1, nI e2, nI c, f_currentYear, f_currentMonth, f_currentLunarDay, f_currentFlags, nI n, ns_tb, a_lunations, a_names, a_conjunctions, a_firstDays, a_lengths, a_monthRows) (nI e1, nI e2, nI c, nI n, ns_tb, a_firstDay, a_rowNames, a_times) := rl_in H hc hb hX hY
  have hb1 := hb.1
  by_cases h0 : n = 0
  · subst h0
    exact br_t rfl (br_t rfl (And.intro rfl R))
  have hne : ¬ nI n = 0 := nI_ne0 (by omega) (by omega)
  rcases rl_rng v1 1 12 (by decide) (by decide) with o1 | ⟨m, m1, m2, rfl, p1, p2⟩
  · exact br_f hne (xq_w0 o1 (br_t rfl (br_f hne (rl_o2 o1 (And.intro rfl R)))))
  · refine br_f hne (xq_w1 p1 p2 (br_f (by decide) (And.intro (pk_in m 13 (by omega)) ?_)))
    refine yq_oc (by omega) hb1 m1 m2 (fun i hi => (hY i hi).2) (And.intro ?_ R)
    rw [nI_clamp (by omega)]
    exact (hX.2 m (by omega)).symm
end
section
/-! the owed statements of build, findDay, goName -/
theorem i_vc_build {k : Nat} {u : SX} {v : SY} (I : i_Rel k u v) (hk : k + 5 ≤ 2562) (v1 : Int32) : wpX_build (fun r u' => wpY_build (fun r' v' => r' = r ∧ i_Rel (k + 5) u' v') v v1) u v1 := by
  refine rl_el (P := fun u v => wpX_build (fun r u' => wpY_build (fun r' v' => r' = r ∧ i_Rel (k + 5) u' v') v v1) u v1) ?_ I
  intro f_leastDay f_greatestDay f_leastYear f_greatestYear f_sunTurns f_moonTurns f_anomalyTurns f_mostRows f_leapMark f_currentYear f_currentMonth f_currentLunarDay f_currentFlags a_lunations a_names a_conjunctions a_firstDays a_lengths a_monthRows a_firstDay a_rowNames a_times e1 e2 c k1 n H hc hb hX hY
  have R : i_Rel (k + 5) (f_leastDay, f_greatestDay, f_leastYear, f_greatestYear, f_sunTurns, f_moonTurns, f_anomalyTurns, f_mostRows, f_leapMark, nI e1, nI e2, nI c, f_currentYear, f_currentMonth, f_currentLunarDay, f_currentFlags, nI n, ns_tb, a_lunations, a_names, a_conjunctions, a_firstDays, a_lengths, a_monthRows) (nI e1, nI e2, nI c, nI n, ns_tb, a_firstDay, a_rowNames, a_times) := rl_in H hc hb hX hY
  rcases rl_rng v1 4 5200 (by decide) (by decide) with o1 | ⟨y, y1, y2, rfl, p1, p2⟩
  · unfold wpX_build
    dsimp only
    exact xq_w0 o1 (br_t rfl (rl_o2 o1 (And.intro rfl R)))
  obtain ⟨q1, q2, hq, h01, h12, h13, h16, hst, hend⟩ := yr_ex H y1 y2
  obtain ⟨r, hr⟩ := rw_Ke e1 e2 q1 (q2 - q1)
  have hg : 1430 ≤ cl_g (12 * y - 1) ∧ cl_g (12 * y - 1) ≤ 1899700 := by unfold cl_g; omega
  have tb := cl_Tb H (d := cl_g (12 * y - 1) - 8) (by omega) (by omega)
  have ek : cl_k e1 e2 (cl_g (12 * y - 1) - 8) = cl_T e1 e2 (cl_g (12 * y - 1) - 8) / 30 := rfl
  have hlo : 35 ≤ q1 := by omega
  have hhi : q2 ≤ 64350 := by
    have ce := (cl_CO e1 e2 (30 * (q2 - 1)) (cl_g (12 * y - 1) + 420)).mpr hend
    have li := (cl_lin H (L := 30 * (q2 - 1)) (by omega)).2
    generalize cl_C e1 e2 (30 * (q2 - 1)) = cc at *
    omega
  refine xq_build H y1 y2 hq h01 h12 h13 h16 hr (fun al an ac af ae am hX2 => ?_)
  refine yq_build H y1 y2 hq h01 h12 h13 hend hr (fun bf br hY2 => ?_)
  exact And.intro rfl (rl_in H hc ⟨by omega, Or.inr ⟨hlo, by omega⟩⟩ hX2 hY2)
theorem i_vc_findDay {k : Nat} {u : SX} {v : SY} (I : i_Rel k u v) (hk : k + 5 ≤ 2562) (v1 : Int32) (v2 : Int32) (v3 : Int32) : wpX_findDay (fun r => wpY_findDay (fun r' v' => r' = r ∧ i_Rel (k + 5) u v') v v1 v2 v3) u v1 v2 v3 := by
  refine rl_el (P := fun u v => wpX_findDay (fun r => wpY_findDay (fun r' v' => r' = r ∧ i_Rel (k + 5) u v') v v1 v2 v3) u v1 v2 v3) ?_ I
  intro f_leastDay f_greatestDay f_leastYear f_greatestYear f_sunTurns f_moonTurns f_anomalyTurns f_mostRows f_leapMark f_currentYear f_currentMonth f_currentLunarDay f_currentFlags a_lunations a_names a_conjunctions a_firstDays a_lengths a_monthRows a_firstDay a_rowNames a_times e1 e2 c k1 n H hc hb hX hY
  have R : ∀ b : Nat → Int32, i_Rel (k + 5) (f_leastDay, f_greatestDay, f_leastYear, f_greatestYear, f_sunTurns, f_moonTurns, f_anomalyTurns, f_mostRows, f_leapMark, nI e1, nI e2, nI c, f_currentYear, f_currentMonth, f_currentLunarDay, f_currentFlags, nI n, ns_tb, a_lunations, a_names, a_conjunctions, a_firstDays, a_lengths, a_monthRows) (nI e1, nI e2, nI c, nI n, ns_tb, a_firstDay, a_rowNames, b) := fun b => rl_in H hc hb hX hY
  have hb1 := hb.1
  unfold wpX_findDay
  dsimp only
  rcases rl_row v1 hb.1 with o | ⟨i, hi, rfl⟩
  · exact xq_ir0 o (br_t rfl (rl_o4 o (And.intro rfl (R a_times))))
  rcases rl_rng v2 0 2 (by decide) (by decide) with o2 | ⟨t, t1, t2, rfl, p1, p2⟩
  · exact xq_ir1 hi hb.1 (br_f (by decide) (xq_w0 o2 (br_t rfl (rl_i4 hi hb.1 (rl_o1 o2 (And.intro rfl (R a_times)))))))
  rcases rl_rng v3 1 30 (by decide) (by decide) with o3 | ⟨f, f1, f2, rfl, q1, q2⟩
  · exact xq_ir1 hi hb.1 (br_f (by decide) (xq_w1 p1 p2 (br_f (by decide) (xq_w0 o3 (br_t rfl (rl_i4 hi hb.1 (rl_i1 p1 p2 (rl_o2 o3 (And.intro rfl (R a_times)))))))))) 
  have hx := hX.1 i hi
  have hy := hY i hi
  have rk := rl_rk H hb hi
  obtain ⟨r, hD⟩ := fd_ex e1 e2 (k1 + i) t f
  have el : 30 * a_lunations (nI i).toNatClampNeg = nI (30 * (k1 + i)) := by
    rw [nI_clamp (by omega), hx.1]
    exact pk_mul 30 _
  have ef : a_firstDay (nI i).toNatClampNeg = nI (cl_O e1 e2 (30 * (k1 + i))) := by
    rw [nI_clamp (by omega)]
    exact hy.1
  have eb : nI (30 * (k1 + i) + f) - 1 = nI (30 * (k1 + i) + f - 1) := pk_sub (b := 1) (by omega)
  refine xq_ir1 hi hb.1 (br_f (by decide) (xq_w1 p1 p2 (br_f (by decide) (xq_w1 q1 q2 (br_f (by decide) (And.intro (pk_in i 13 (by omega)) (nm_r el ?_)))))))
  refine xq_od H (L := 30 * (k1 + i) + f - 1) (by rw [nI_add, eb]) (by omega) (by omega) ⟨32 - f, ?_⟩
  refine xq_57 H rk.1 rk.2.1 t2 f1 hD ?_ (31 - f) (32 - f) f (by omega) (by omega) (Nat.le_refl _) (fun w a b => by omega)
  refine rl_i4 hi hb.1 (rl_i1 p1 p2 (rl_i2 q1 q2 (And.intro (pk_in i 16 (by omega)) (nm_r ef ?_))))
  refine yq_lc H rfl (by omega) (by omega) (And.intro (by decide) (nm_r (e' := nI (k1 + i)) ((nx_k H (by omega)).trans (congrArg nI rk.2.2.2.2)) ⟨31, ?_⟩))
  exact yq_56 H rk.1 rk.2.1 rfl t2 f1 f2 hD (fun b => And.intro rfl (R b)) 30 31 0 a_times (by omega) (by omega) (fun j hj => absurd hj (by omega))
section
variable {e1 e2 : Nat}
variable {f_sunEpicycle f_moonEpicycle f_current f_rowCount : Int32} {a_s a_firstDay a_rowNames a_times : Nat → Int32}
theorem yq_goName {post : Int32 → SY → Prop} (H : cl_ok e1 e2) {y mo ld fl s g : Nat} (hy4 : 4 ≤ y) (hy : y ≤ 5200) (hm1 : 1 ≤ mo) (hm : mo ≤ 12) (hld1 : 1 ≤ ld) (hld : ld ≤ 30) (hfl : fl ≤ 3) (hs : s = 12 * y + mo - 2) (hg : g = cl_g s)
    (A : ∀ x, g - 8 ≤ x → x ≤ g + 80 → yn_Q e1 e2 s ld fl x → (∀ w, g - 8 ≤ w → w < x → ¬ yn_Q e1 e2 s ld fl w) → post 1 (nI e1, nI e2, nI x, f_rowCount, ns_tb, a_firstDay, a_rowNames, a_times))
    (B : (∀ x, g - 8 ≤ x → x ≤ g + 80 → ¬ yn_Q e1 e2 s ld fl x) → yn_F e1 e2 s fl 0 (g - 8) (g + 80) → post 3 (nI e1, nI e2, f_current, f_rowCount, ns_tb, a_firstDay, a_rowNames, a_times))
    (C : (∀ x, g - 8 ≤ x → x ≤ g + 80 → ¬ yn_Q e1 e2 s ld fl x) → ¬ yn_F e1 e2 s fl 0 (g - 8) (g + 80) → post 2 (nI e1, nI e2, f_current, f_rowCount, ns_tb, a_firstDay, a_rowNames, a_times)) : wpY_goName post (nI e1, nI e2, f_current, f_rowCount, ns_tb, a_firstDay, a_rowNames, a_times) (nI y) (nI mo) (nI ld) (nI fl) := by
  have hgb : 1430 ≤ g ∧ g ≤ 1900000 := by
    rw [hg, hs]
    unfold cl_g
    omega
  have k8 : nI g - 8 = nI (g - 8) := pk_sub (b := 8) (by omega)
  refine rl_i1 (nI_nlt (b := 4) hy4 (by omega)) (nI_nlt (a := 5200) hy (by decide)) ?_
  refine rl_i2 (nI_nlt (b := 1) hm1 (by omega)) (nI_nlt (a := 12) hm (by decide)) ?_
  refine rl_i1 (nI_nlt (b := 1) hld1 (by omega)) (nI_nlt (a := 30) hld (by decide)) ?_
  refine rl_i2 (nI_nlt (b := 0) (Nat.zero_le _) (by omega)) (nI_nlt (a := 3) hfl (by decide)) ?_
  refine yq_gs rfl rfl hy hm (by omega) ?_
  rw [← hs, ← hg]
  refine nm_r k8 ⟨90, ?_⟩
  exact yq_73 H hy hm1 hm (by omega) hld hfl (by omega) 89 90 (g - 8) 0 0 (-1) (by omega) (by omega) (by omega) (by decide) (by decide) (fun j hj ej => absurd ej (nx_nm1 hj)) A B C
end
theorem i_vc_goName {k : Nat} {u : SX} {v : SY} (I : i_Rel k u v) (hk : k + 5 ≤ 2562) (v1 : Int32) (v2 : Int32) (v3 : Int32) (v4 : Int32) : wpX_goName (fun r u' => wpY_goName (fun r' v' => r' = r ∧ i_Rel (k + 5) u' v') v v1 v2 v3 v4) u v1 v2 v3 v4 := by
  refine rl_el (P := fun u v => wpX_goName (fun r u' => wpY_goName (fun r' v' => r' = r ∧ i_Rel (k + 5) u' v') v v1 v2 v3 v4) u v1 v2 v3 v4) ?_ I
  intro f_leastDay f_greatestDay f_leastYear f_greatestYear f_sunTurns f_moonTurns f_anomalyTurns f_mostRows f_leapMark f_currentYear f_currentMonth f_currentLunarDay f_currentFlags a_lunations a_names a_conjunctions a_firstDays a_lengths a_monthRows a_firstDay a_rowNames a_times e1 e2 c k1 n H hc hb hX hY
  have R : i_Rel (k + 5) (f_leastDay, f_greatestDay, f_leastYear, f_greatestYear, f_sunTurns, f_moonTurns, f_anomalyTurns, f_mostRows, f_leapMark, nI e1, nI e2, nI c, f_currentYear, f_currentMonth, f_currentLunarDay, f_currentFlags, nI n, ns_tb, a_lunations, a_names, a_conjunctions, a_firstDays, a_lengths, a_monthRows) (nI e1, nI e2, nI c, nI n, ns_tb, a_firstDay, a_rowNames, a_times) := rl_in H hc hb hX hY
  rcases rl_rng v1 4 5200 (by decide) (by decide) with o1 | ⟨y, y1, y2, rfl, p1, p2⟩
  · unfold wpX_goName
    dsimp only
    exact xq_w0 o1 (br_t rfl (rl_o1 o1 (And.intro rfl R)))
  rcases rl_rng v2 1 12 (by decide) (by decide) with o2 | ⟨mo, m1, m2, rfl, q1, q2⟩
  · unfold wpX_goName
    dsimp only
    exact xq_w1 p1 p2 (br_f (by decide) (xq_w0 o2 (br_t rfl (rl_i1 p1 p2 (rl_o2 o2 (And.intro rfl R))))))
  rcases rl_rng v3 1 30 (by decide) (by decide) with o3 | ⟨ld, l1, l2, rfl, s1, s2⟩
  · unfold wpX_goName
    dsimp only
    exact xq_w1 p1 p2 (br_f (by decide) (xq_w1 q1 q2 (br_f (by decide) (xq_w0 o3 (br_t rfl (rl_i1 p1 p2 (rl_i2 q1 q2 (rl_o1 o3 (And.intro rfl R)))))))))
  rcases rl_rng v4 0 3 (by decide) (by decide) with o4 | ⟨fl, w1, w2, rfl, t1, t2⟩
  · unfold wpX_goName
    dsimp only
    exact xq_w1 p1 p2 (br_f (by decide) (xq_w1 q1 q2 (br_f (by decide) (xq_w1 s1 s2 (br_f (by decide) (xq_w0 o4 (br_t rfl (rl_i1 p1 p2 (rl_i2 q1 q2 (rl_i1 s1 s2 (rl_o2 o4 (And.intro rfl R))))))))))))
  have hgb : 1430 ≤ cl_g (12 * y + mo - 2) ∧ cl_g (12 * y + mo - 2) ≤ 1900000 := by
    unfold cl_g
    omega
  refine xq_goName H y1 y2 m1 m2 l1 l2 w2 (fun l a b hz hm hd => ?_) (fun l a b hz hm hd => ?_) (fun hN => ?_)
  · have gi := gn_in H (by omega) (by omega) a (by omega) hz
    have o1 := cl_Om H (L := 30 * l) (M := 30 * l + ld - 1) (by omega)
    have o2 := cl_Om H (L := 30 * l + ld) (M := 30 * (l + 1)) (by omega)
    have GQ : ∀ x, cl_g (12 * y + mo - 2) - 8 ≤ x → x ≤ cl_g (12 * y + mo - 2) + 80 → _ := fun x x1 x2 => gn_Q H a (by omega) hz hm l1 l2 w2 (d := x) (by omega) (by omega)
    have Qd := (GQ (cl_O e1 e2 (30 * l + ld - 1) + fl / 2) (by omega) (by omega)).mpr ⟨by omega, by omega, by omega⟩
    refine yq_goName H y1 y2 m1 m2 l1 l2 w2 rfl rfl (fun x x1 x2 hq hf => ?_) (fun hq _ => ?_) (fun hq _ => ?_)
    · have g1 := (GQ x x1 x2).mp hq
      have ex : x = cl_O e1 e2 (30 * l + ld - 1) + fl / 2 := by
        by_cases c1 : cl_O e1 e2 (30 * l + ld - 1) + fl / 2 < x
        · exact absurd Qd (hf _ (by omega) c1)
        · omega
      subst ex
      have ek : cl_k e1 e2 (cl_O e1 e2 (30 * l + ld - 1) + fl / 2) = l := (cl_kk H (by omega) l).mpr ⟨by omega, by omega⟩
      have eT : cl_T e1 e2 (cl_O e1 e2 (30 * l + ld - 1) + fl / 2) = 30 * l + ld - 1 := (cl_TT H (by omega) _).mpr ⟨by omega, by rw [show 30 * l + ld - 1 + 1 = 30 * l + ld by omega]; omega⟩
      have ed := hq.2.2
      refine And.intro rfl (rl_in H (Or.inr ⟨by omega, by omega, ?_, ?_, ?_, ?_⟩) hb hX hY)
      · rw [ek, hz]
      · rw [ek, hz]
      · rw [eT]
      · rw [ek, ed, hm]
        exact congrArg nI (by omega)
    · exact absurd Qd (hq _ (by omega) (by omega))
    · exact absurd Qd (hq _ (by omega) (by omega))
  · have gi := gn_in H (by omega) (by omega) a (by omega) hz
    have o1 := cl_Om H (L := 30 * l) (M := 30 * l + ld - 1) (by omega)
    have o2 := cl_Om H (L := 30 * l + ld) (M := 30 * (l + 1)) (by omega)
    have lo := cl_lenO H (k := l) (by omega)
    refine yq_goName H y1 y2 m1 m2 l1 l2 w2 rfl rfl (fun x x1 x2 hq hf => ?_) (fun hq _ => And.intro rfl R) (fun hq hF => ?_)
    · have g1 := (gn_Q H a (by omega) hz hm l1 l2 w2 (d := x) (by omega) (by omega)).mp hq
      omega
    · have ek : cl_k e1 e2 (cl_O e1 e2 (30 * l)) = l := (cl_kk H (by omega) l).mpr ⟨by omega, by omega⟩
      exact absurd (Or.inr ⟨cl_O e1 e2 (30 * l), by omega, by omega, by rw [ek]; exact ⟨hz, hm⟩⟩) hF
  · have no : ∀ x, cl_g (12 * y + mo - 2) - 8 ≤ x → x ≤ cl_g (12 * y + mo - 2) + 80 → ¬ yn_M e1 e2 (12 * y + mo - 2) (fl % 2) (cl_k e1 e2 x) := by
      intro x x1 x2 hM
      have kb := cl_kb H (d := x) (by omega) (by omega)
      have gi := gn_in H (by omega) (by omega) (by omega) (by omega) hM.1
      exact hN (cl_k e1 e2 x) (by omega) (by omega) hM
    refine yq_goName H y1 y2 m1 m2 l1 l2 w2 rfl rfl (fun x x1 x2 hq hf => absurd hq.1 (no x x1 x2)) (fun hq hF => ?_) (fun hq _ => And.intro rfl R)
    rcases hF with z | ⟨x, x1, x2, hM⟩
    · exact absurd z (by decide)
    · exact absurd hM (no x x1 x2)
end
