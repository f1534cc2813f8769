section
/-! numbers, sums, counts; no program here -/
def zs_v (a : Nat → Int32) (i : Nat) : Nat := (a i).toNatClampNeg
/-- the first N places hold naturals below B -/
def zs_R (a : Nat → Int32) (N B : Nat) : Prop := ∀ i, i < N → ∃ n, n < B ∧ a i = nI n
def zs_S (f : Nat → Nat) : Nat → Nat
  | 0 => 0
  | n + 1 => zs_S f n + f n
/-- a counter that goes down to -1, moved up by one -/
def zs_d : Nat → Int32
  | 0 => -1
  | k + 1 => nI k
/-- how many of the first n places hold 0 -/
def zs_C (a : Nat → Int32) : Nat → Nat
  | 0 => 0
  | n + 1 => zs_C a n + if a n = 0 then 1 else 0
theorem zs_vI {a : Nat → Int32} {i n : Nat} (h : a i = nI n) (hn : n < 2 ^ 31) : zs_v a i = n := by
  unfold zs_v
  rw [h]
  exact nI_clamp hn
theorem zs_Rv {a : Nat → Int32} {N B i : Nat} (h : zs_R a N B) (hB : B ≤ 2 ^ 31) (hi : i < N) : a i = nI (zs_v a i) ∧ zs_v a i < B := by
  obtain ⟨n, hn, e⟩ := h i hi
  have e' := zs_vI e (by omega)
  rw [e']
  exact ⟨e, hn⟩
theorem zs_Ru {a : Nat → Int32} {N B k x : Nat} (h : zs_R a N B) (hx : x < B) : zs_R (upd a k (nI x)) N B := by
  intro i hi
  by_cases e : i = k
  · exact ⟨x, hx, by rw [e, pk_us]⟩
  · obtain ⟨n, hn, e'⟩ := h i hi
    exact ⟨n, hn, by rw [pk_un e]; exact e'⟩
theorem zs_vu {a : Nat → Int32} {k j : Nat} {x : Int32} (h : j ≠ k) : zs_v (upd a k x) j = zs_v a j := by
  unfold zs_v
  rw [pk_un h]
theorem zs_vs {a : Nat → Int32} {k x : Nat} (h : x < 2 ^ 31) : zs_v (upd a k (nI x)) k = x := zs_vI pk_us h
theorem zs_d1 (k : Nat) : nI k + (-1) = zs_d k := by
  cases k with
  | zero => decide
  | succ k => exact pk_m1 k
theorem zs_m97 {v w : Nat} (hv : v < 97) (hw : w < 97) : v * w ≤ 9216 := Nat.mul_le_mul (show v ≤ 96 by omega) (show w ≤ 96 by omega)
theorem zs_rem {x : Int32} (n : Nat) (hx : x = nI n) (hn : n < 2 ^ 31) : x - x / 97 * 97 = nI (n % 97) := by
  subst hx
  exact pk_rem hn (by decide) (by decide)
theorem zs_step {t v w : Nat} {x y : Int32} (hx : x = nI v) (hy : y = nI w) (ht : t < 97) (hv : v < 97) (hw : w < 97) : (nI t + x * y) - (nI t + x * y) / 97 * 97 = nI ((t + v * w) % 97) := by
  subst hx hy
  have h := zs_m97 hv hw
  exact zs_rem _ (by rw [pk_mul, nI_add]) (by omega)
theorem zs_16 (n : Nat) : (16 : Int32) * nI n = nI (16 * n) := pk_mul 16 n
theorem zs_2 (n : Nat) : (2 : Int32) * nI n = nI (2 * n) := pk_mul 2 n
theorem zs_3 (n : Nat) : (3 : Int32) * nI n = nI (3 * n) := pk_mul 3 n
theorem zs_21 (n : Nat) : (2 : Int32) * nI n + 1 = nI (2 * n + 1) := by rw [zs_2, nI_1]
theorem zs_s1 {n : Nat} (h : 1 ≤ n) : nI n - 1 = nI (n - 1) := pk_sub h
theorem zs_Sc {f g : Nat → Nat} : ∀ n, (∀ j, j < n → f j = g j) → zs_S f n = zs_S g n
  | 0, _ => rfl
  | n + 1, h => by
    show zs_S f n + f n = zs_S g n + g n
    rw [zs_Sc n (fun j hj => h j (by omega)), h n (by omega)]
theorem zs_Ss (f : Nat → Nat) : ∀ n, zs_S f (n + 1) = f 0 + zs_S (fun j => f (1 + j)) n
  | 0 => by
    show 0 + f 0 = f 0 + 0
    omega
  | n + 1 => by
    show zs_S f (n + 1) + f (n + 1) = f 0 + (zs_S (fun j => f (1 + j)) n + f (1 + n))
    rw [zs_Ss f n, Nat.add_comm 1 n]
    omega
theorem zs_Sb {f : Nat → Nat} {B : Nat} : ∀ n, (∀ j, j < n → f j ≤ B) → zs_S f n ≤ n * B
  | 0, _ => Nat.zero_le _
  | n + 1, h => by
    show zs_S f n + f n ≤ (n + 1) * B
    have h1 := zs_Sb n (fun j hj => h j (by omega))
    have h2 := h n (by omega)
    rw [Nat.succ_mul]
    omega
theorem zs_Cn {a : Nat → Int32} {k : Nat} {x : Int32} : ∀ n, n ≤ k → zs_C (upd a k x) n = zs_C a n
  | 0, _ => rfl
  | n + 1, h => by
    show zs_C (upd a k x) n + (if upd a k x n = 0 then 1 else 0) = zs_C a n + (if a n = 0 then 1 else 0)
    rw [zs_Cn n (by omega), pk_un (by omega)]
theorem zs_Cz {a : Nat → Int32} {k : Nat} {x : Int32} (hx : ¬ x = 0) (hk : ¬ a k = 0) : ∀ n, zs_C (upd a k x) n = zs_C a n
  | 0 => rfl
  | n + 1 => by
    show zs_C (upd a k x) n + (if upd a k x n = 0 then 1 else 0) = zs_C a n + (if a n = 0 then 1 else 0)
    rw [zs_Cz hx hk n]
    by_cases e : n = k
    · rw [e, pk_us, if_neg hx, if_neg hk]
    · rw [pk_un e]
theorem zs_Cd {a : Nat → Int32} {k : Nat} {x : Int32} (hx : ¬ x = 0) (hk : a k = 0) : ∀ n, k < n → zs_C (upd a k x) n + 1 = zs_C a n
  | 0, h => absurd h (by omega)
  | n + 1, h => by
    show zs_C (upd a k x) n + (if upd a k x n = 0 then 1 else 0) + 1 = zs_C a n + (if a n = 0 then 1 else 0)
    by_cases e : n = k
    · rw [zs_Cn n (by omega), e, pk_us, if_neg hx, if_pos hk]
    · rw [pk_un e]
      have := zs_Cd hx hk n (by omega)
      omega
theorem zs_Cle (a : Nat → Int32) : ∀ n, zs_C a n ≤ n
  | 0 => Nat.le_refl 0
  | n + 1 => by
    show zs_C a n + (if a n = 0 then 1 else 0) ≤ n + 1
    have := zs_Cle a n
    split <;> omega
/-! inverses mod 97 -/
def zs_V (a : Nat → Int32) : Prop := ∀ y, y < 97 → ∃ v, v < 97 ∧ a y = nI v ∧ (0 < y → y * v % 97 = 1)
theorem zs_p97 : ∀ y, y < 97 → 2 ≤ y → 0 < 97 % y := by decide +kernel
theorem zs_inv {y v : Nat} (h2 : 2 ≤ y) (h : 97 % y * v % 97 = 1) : y * ((97 - 97 / y) * v % 97) % 97 = 1 := by
  have e1 : y * (97 / y) + 97 % y = 97 := Nat.div_add_mod 97 y
  have e2 : y * (97 - 97 / y) = 97 * (y - 1) + 97 % y := by
    rw [Nat.mul_sub]
    have : 97 * (y - 1) = 97 * y - 97 := by omega
    have : y * 97 = 97 * y := Nat.mul_comm _ _
    omega
  rw [Nat.mul_mod, Nat.mod_mod, ← Nat.mul_mod, ← Nat.mul_assoc, e2, Nat.add_mul, Nat.mul_assoc, Nat.mul_add_mod]
  exact h
/-- the coefficient that a reciprocal gets: all of the sum but its first term is T, the first factor v0, its inverse f -/
theorem zs_rec {v0 f T r : Nat} (hf : v0 * f % 97 = 1) (hr : r = T % 97) : (v0 * ((97 - r) * f % 97) + T) % 97 = 0 := by
  have hr' : r < 97 := by rw [hr]; exact Nat.mod_lt _ (by decide)
  have e1 : v0 * ((97 - r) * f % 97) % 97 = (97 - r) % 97 := by
    rw [Nat.mul_mod, Nat.mod_mod, ← Nat.mul_mod, Nat.mul_left_comm, Nat.mul_mod, hf, Nat.mul_one, Nat.mod_mod]
  rw [Nat.add_mod, e1, ← hr]
  omega
end
section
/-! what is found, and the stack: relations over the arrays, no program here -/
/-- what never changes while places are forced: kinds, parts, inverses -/
def zs_G (a1 a2 a3 a9 : Nat → Int32) : Prop :=
  zs_R a1 8 10 ∧ zs_R a2 8 8 ∧ zs_R a3 8 97 ∧ (∀ s, s < 8 → (a1 s = 2 ∨ a1 s = 3 ∨ a1 s = 9) → zs_v a3 s < 8) ∧ zs_V a9
/-- the terms of the sum that the law forms for a place q of a reciprocal -/
def zs_f (a2 a5 : Nat → Int32) (q : Nat) : Nat → Nat := fun i => zs_v a5 (16 * zs_v a2 (q / 16) + i) * zs_v a5 (q - i)
/-- what a found place of a reciprocal rests on is found, and the law's equation holds there -/
def zs_F (a1 a2 a4 a5 : Nat → Int32) : Prop := ∀ q, q < 128 → a4 q = 2 → a1 (q / 16) = 7 →
  (∀ i, i ≤ q % 16 → a4 (16 * zs_v a2 (q / 16) + i) = 2) ∧ (∀ j, j < q % 16 → a4 (16 * (q / 16) + j) = 2) ∧ zs_S (zs_f a2 a5 q) (q % 16 + 1) % 97 = if q % 16 = 0 then 1 else 0
/-- need number i of place q is found -/
def zs_N (a2 a4 : Nat → Int32) (q i : Nat) : Prop :=
  (i ≤ q % 16 → a4 (16 * zs_v a2 (q / 16) + i) = 2) ∧ (q % 16 < i → i ≤ 2 * (q % 16) → a4 (16 * (q / 16) + (i - q % 16 - 1)) = 2)
/-- an entry of the stack -/
def zs_E (a1 a2 a4 : Nat → Int32) (x y : Int32) : Prop :=
  ∃ q t, q < 128 ∧ t ≤ 32 ∧ x = nI q ∧ y = nI t ∧ a4 q = 1 ∧ (a1 (q / 16) = 7 → ∀ i, i < t → zs_N a2 a4 q i)
/-- the stack of D entries -/
def zs_T (a1 a2 a4 a6 a7 : Nat → Int32) (D : Nat) : Prop :=
  (∀ d, d < D → zs_E a1 a2 a4 (a6 d) (a7 d)) ∧ (∀ d e, d < D → e < D → a6 d = a6 e → d = e) ∧ D + zs_C a4 128 ≤ 128
/-- what was found stays found, with its value -/
def zs_M (a4 a5 b4 b5 : Nat → Int32) : Prop := ∀ q, q < 128 → a4 q = 2 → b4 q = 2 ∧ b5 q = a5 q
/-- what changes while places are forced -/
def zs_Y (a1 a2 a4 a5 a8 : Nat → Int32) : Prop := zs_R a5 128 97 ∧ zs_R a8 16 97 ∧ zs_F a1 a2 a4 a5
theorem zs_i12 : ¬ (1 : Int32) = 2 := by decide
theorem zs_i10 : ¬ (1 : Int32) = 0 := by decide
theorem zs_i32 : ¬ (3 : Int32) = 2 := by decide
theorem zs_i30 : ¬ (3 : Int32) = 0 := by decide
theorem zs_i20 : ¬ (2 : Int32) = 0 := by decide
theorem zs_i02 : ¬ (0 : Int32) = 2 := by decide
theorem zs_i01 : ¬ (0 : Int32) = 1 := by decide
/-- a place that isn't found is written: the found ones stay -/
theorem zs_k2 {a4 : Nat → Int32} {p j : Nat} {c : Int32} (hp : ¬ a4 p = 2) (h : a4 j = 2) : upd a4 p c j = 2 := by
  rw [pk_un (fun e => hp (by rw [← e]; exact h))]
  exact h
theorem zs_Mr (a4 a5 : Nat → Int32) : zs_M a4 a5 a4 a5 := fun _ _ h => ⟨h, rfl⟩
theorem zs_Mt {a4 a5 b4 b5 c4 c5 : Nat → Int32} (h : zs_M a4 a5 b4 b5) (g : zs_M b4 b5 c4 c5) : zs_M a4 a5 c4 c5 := by
  intro q hq h2
  obtain ⟨h3, h4⟩ := h q hq h2
  obtain ⟨g3, g4⟩ := g q hq h3
  exact ⟨g3, by rw [g4, h4]⟩
theorem zs_M4 {a4 a5 : Nat → Int32} {p : Nat} {c : Int32} (hp : ¬ a4 p = 2) : zs_M a4 a5 (upd a4 p c) a5 := fun _ _ h => ⟨zs_k2 hp h, rfl⟩
theorem zs_M5 {a4 a5 : Nat → Int32} {p : Nat} {c : Int32} (hp : ¬ a4 p = 2) : zs_M a4 a5 a4 (upd a5 p c) := fun q _ h => ⟨h, pk_un (fun e => hp (by rw [← e]; exact h))⟩
theorem zs_F5 {a1 a2 a4 a5 : Nat → Int32} {p : Nat} {y : Int32} (hp : ¬ a4 p = 2) (h : zs_F a1 a2 a4 a5) : zs_F a1 a2 a4 (upd a5 p y) := by
  intro q hq h2 h7
  obtain ⟨f1, f2, f3⟩ := h q hq h2 h7
  refine ⟨f1, f2, ?_⟩
  rw [zs_Sc (q % 16 + 1) (g := zs_f a2 a5 q) (fun j hj => ?_)]
  · exact f3
  · have n1 : 16 * zs_v a2 (q / 16) + j ≠ p := fun e => hp (by rw [← e]; exact f1 j (by omega))
    have n2 : q - j ≠ p := by
      intro e
      apply hp
      rw [← e]
      by_cases hj0 : j = 0
      · rw [hj0]
        exact h2
      · have := f2 (q % 16 - j) (by omega)
        rw [show q - j = 16 * (q / 16) + (q % 16 - j) by omega]
        exact this
    show zs_v (upd a5 p y) _ * zs_v (upd a5 p y) _ = _
    rw [zs_vu n1, zs_vu n2]
    rfl
theorem zs_Fc {a1 a2 a4 a5 : Nat → Int32} {p : Nat} {c : Int32} (hp : ¬ a4 p = 2) (hc : ¬ c = 2) (h : zs_F a1 a2 a4 a5) : zs_F a1 a2 (upd a4 p c) a5 := by
  intro q hq h2 h7
  have hqp : q ≠ p := by
    intro e
    rw [e, pk_us] at h2
    exact hc h2
  rw [pk_un hqp] at h2
  obtain ⟨f1, f2, f3⟩ := h q hq h2 h7
  exact ⟨fun i hi => zs_k2 hp (f1 i hi), fun i hi => zs_k2 hp (f2 i hi), f3⟩
theorem zs_F2 {a1 a2 a4 a5 : Nat → Int32} {p : Nat} (hp : ¬ a4 p = 2) (h : zs_F a1 a2 a4 a5)
    (hn : a1 (p / 16) = 7 → (∀ i, i ≤ p % 16 → a4 (16 * zs_v a2 (p / 16) + i) = 2) ∧ (∀ j, j < p % 16 → a4 (16 * (p / 16) + j) = 2) ∧ zs_S (zs_f a2 a5 p) (p % 16 + 1) % 97 = if p % 16 = 0 then 1 else 0) :
    zs_F a1 a2 (upd a4 p 2) a5 := by
  intro q hq h2 h7
  by_cases hqp : q = p
  · rw [hqp] at h7
    obtain ⟨f1, f2, f3⟩ := hn h7
    rw [hqp]
    exact ⟨fun i hi => zs_k2 hp (f1 i hi), fun i hi => zs_k2 hp (f2 i hi), f3⟩
  · rw [pk_un hqp] at h2
    obtain ⟨f1, f2, f3⟩ := h q hq h2 h7
    exact ⟨fun i hi => zs_k2 hp (f1 i hi), fun i hi => zs_k2 hp (f2 i hi), f3⟩
theorem zs_Nk {a2 a4 : Nat → Int32} {p q i : Nat} {c : Int32} (hp : ¬ a4 p = 2) (h : zs_N a2 a4 q i) : zs_N a2 (upd a4 p c) q i :=
  ⟨fun e => zs_k2 hp (h.1 e), fun e e' => zs_k2 hp (h.2 e e')⟩
theorem zs_Tpop {a1 a2 a4 a6 a7 : Nat → Int32} {d q : Nat} {c : Int32} (h : zs_T a1 a2 a4 a6 a7 (d + 1)) (hq : a6 d = nI q) (h1 : a4 q = 1) (hc : ¬ c = 0) : zs_T a1 a2 (upd a4 q c) a6 a7 d := by
  obtain ⟨hE, hD, hC⟩ := h
  have n2 : ¬ a4 q = 2 := by rw [h1]; exact zs_i12
  have n0 : ¬ a4 q = 0 := by rw [h1]; exact zs_i10
  refine ⟨fun e he => ?_, fun e g he hg => hD e g (by omega) (by omega), ?_⟩
  · obtain ⟨r, t, hr, ht, er, et, h4, hN⟩ := hE e (by omega)
    have hne : r ≠ q := by
      intro z
      have := hD e d (by omega) (by omega) (by rw [er, hq, z])
      omega
    exact ⟨r, t, hr, ht, er, et, by rw [pk_un hne]; exact h4, fun z i hi => zs_Nk n2 (hN z i hi)⟩
  · rw [zs_Cz hc n0]
    omega
theorem zs_room {a1 a2 a4 a6 a7 : Nat → Int32} {D w : Nat} (h : zs_T a1 a2 a4 a6 a7 D) (hw : w < 128) (h0 : a4 w = 0) : D < 128 := by
  have h1 := zs_Cd (x := 1) zs_i10 h0 128 hw
  have h2 := h.2.2
  omega
theorem zs_Tpush {a1 a2 a4 a6 a7 : Nat → Int32} {D w : Nat} (h : zs_T a1 a2 a4 a6 a7 D) (hw : w < 128) (h0 : a4 w = 0) : zs_T a1 a2 (upd a4 w 1) (upd a6 D (nI w)) (upd a7 D 0) (D + 1) := by
  obtain ⟨hE, hD, hC⟩ := h
  have n2 : ¬ a4 w = 2 := by rw [h0]; exact zs_i02
  have hne : ∀ e, e < D → ¬ a6 e = nI w := by
    intro e he z
    obtain ⟨r, t, hr, ht, er, et, h4, hN⟩ := hE e he
    rw [er, nI_eq (by omega) (by omega)] at z
    rw [z, h0] at h4
    exact zs_i01 h4
  refine ⟨fun e he => ?_, fun e g he hg z => ?_, ?_⟩
  · by_cases hd : e = D
    · rw [hd, pk_us, pk_us]
      exact ⟨w, 0, hw, by omega, rfl, rfl, pk_us, fun _ i hi => absurd hi (by omega)⟩
    · rw [pk_un hd, pk_un hd]
      obtain ⟨r, t, hr, ht, er, et, h4, hN⟩ := hE e (by omega)
      have hrw : r ≠ w := by
        intro z
        rw [z, h0] at h4
        exact zs_i01 h4
      exact ⟨r, t, hr, ht, er, et, by rw [pk_un hrw]; exact h4, fun z i hi => zs_Nk n2 (hN z i hi)⟩
  · by_cases h1 : e = D
    · by_cases h2 : g = D
      · omega
      · rw [h1, pk_us, pk_un h2] at z
        exact absurd z.symm (hne g (by omega))
    · by_cases h2 : g = D
      · rw [h2, pk_us, pk_un h1] at z
        exact absurd z (hne e (by omega))
      · rw [pk_un h1, pk_un h2] at z
        exact hD e g (by omega) (by omega) z
  · have := zs_Cd (x := 1) zs_i10 h0 128 hw
    omega
theorem zs_Tinc {a1 a2 a4 a6 a7 : Nat → Int32} {d q t : Nat} (h : zs_T a1 a2 a4 a6 a7 (d + 1)) (hq : a6 d = nI q) (hqb : q < 128) (ht : a7 d = nI t) (htb : t ≤ 31) (hN : a1 (q / 16) = 7 → zs_N a2 a4 q t) : zs_T a1 a2 a4 a6 (upd a7 d (nI (t + 1))) (d + 1) := by
  obtain ⟨hE, hD, hC⟩ := h
  refine ⟨fun e he => ?_, hD, hC⟩
  by_cases hd : e = d
  · rw [hd, pk_us]
    obtain ⟨r, u, hr, hu, er, eu, h4, hM⟩ := hE d (by omega)
    have e1 : r = q := (nI_eq (by omega) (by omega)).mp (by rw [← er, hq])
    have e2 : u = t := (nI_eq (by omega) (by omega)).mp (by rw [← eu, ht])
    rw [e1, e2] at hM
    rw [e1] at h4
    refine ⟨q, t + 1, hqb, by omega, hq, rfl, h4, fun z i hi => ?_⟩
    by_cases hi' : i = t
    · rw [hi']
      exact hN z
    · exact hM z i (by omega)
  · rw [pk_un hd]
    exact hE e he
/-- all needs of a reciprocal's place are found and its value solves the equation: it may be called found -/
theorem zs_sol {a2 a4 a5 : Nat → Int32} {p x : Nat} (hp : ¬ a4 p = 2) (hx : x < 97) (f1 : ∀ i, i ≤ p % 16 → a4 (16 * zs_v a2 (p / 16) + i) = 2) (f2 : ∀ j, j < p % 16 → a4 (16 * (p / 16) + j) = 2)
    (e : (zs_v a5 (16 * zs_v a2 (p / 16)) * x + zs_S (fun j => zs_v a5 (16 * zs_v a2 (p / 16) + (1 + j)) * zs_v a5 (p - (1 + j))) (p % 16)) % 97 = if p % 16 = 0 then 1 else 0) :
    zs_S (zs_f a2 (upd a5 p (nI x)) p) (p % 16 + 1) % 97 = if p % 16 = 0 then 1 else 0 := by
  have g1 : ∀ i, i ≤ p % 16 → 16 * zs_v a2 (p / 16) + i ≠ p := fun i hi z => hp (by have := f1 i hi; rw [z] at this; exact this)
  rw [zs_Ss]
  have e0 : zs_f a2 (upd a5 p (nI x)) p 0 = zs_v a5 (16 * zs_v a2 (p / 16)) * x := by
    show zs_v (upd a5 p (nI x)) (16 * zs_v a2 (p / 16) + 0) * zs_v (upd a5 p (nI x)) (p - 0) = _
    rw [zs_vu (g1 0 (by omega)), Nat.sub_zero, zs_vs (by omega)]
    rfl
  rw [e0, zs_Sc (p % 16) (g := fun j => zs_v a5 (16 * zs_v a2 (p / 16) + (1 + j)) * zs_v a5 (p - (1 + j))) (fun j hj => ?_)]
  · exact e
  · show zs_v (upd a5 p (nI x)) _ * zs_v (upd a5 p (nI x)) _ = _
    rw [zs_vu (g1 (1 + j) (by omega)), zs_vu (by omega)]
end
section
/-! the small methods: need, product, timesInner, composed -/
section
variable {a1 a2 a3 a4 a5 a6 a7 a8 a9 : Nat → Int32}
theorem zs_need {post : Int32 → Prop} {x y : Int32} {p i k A B : Nat} (hx : x = nI p) (hy : y = nI i) (hp : p < 128) (hi : i ≤ 32)
    (h1 : a1 (p / 16) = nI k) (hk : k < 10) (h2 : a2 (p / 16) = nI A) (hA : A < 8) (h3 : a3 (p / 16) = nI B) (hB : k = 2 ∨ k = 3 ∨ k = 9 → B < 8)
    (H1 : (k = 7 → 2 * (p % 16) < i) → post (-1))
    (H2 : ∀ w, w < 128 → i ≤ 31 → (k = 7 → (i ≤ p % 16 ∧ w = 16 * A + i) ∨ (p % 16 < i ∧ i ≤ 2 * (p % 16) ∧ w = 16 * (p / 16) + (i - p % 16 - 1))) → post (nI w)) :
    wpX_need post (a1, a2, a3, a4, a5, a6, a7, a8, a9) x y := by
  subst hx hy
  have hs : p / 16 < 8 := by omega
  have hn : p % 16 < 16 := by omega
  have es : nI p >>> ((4 : Int32) &&& 31) = nI (p / 16) := pk_shrN (by omega) _ 4 (by decide)
  have en : nI p &&& 15 = nI (p % 16) := pk_andN (by omega) 4 (by decide)
  generalize p / 16 = s at *
  generalize p % 16 = n at *
  have cs : (nI s).toNatClampNeg = s := nI_clamp (by omega)
  have n42 : k = 3 ∨ k = 9 → wX_need_42 post (nI i) (nI s) (nI n) (nI (16 * A)) a1 a2 a3 a4 a5 a6 a7 a8 a9 := by
    intro hk'
    have hB8 := hB (by omega)
    unfold wX_need_42
    refine pk_lt n i (fun z => ?_) (fun z => ?_)
    · refine pk_lt (2 * n + 1) i (fun z' => H1 (fun e => absurd e (by omega))) (fun z' => ⟨pk_in s 8 hs, ?_⟩) (hx := zs_21 n)
      have e : (((16 : Int32) * a3 (nI s).toNatClampNeg + nI i) - nI n) - 1 = nI (16 * B + i - n - 1) := by
        rw [cs, h3, zs_16, nI_add, pk_sub (by omega), zs_s1 (by omega)]
      rw [e]
      exact H2 _ (by omega) (by omega) (fun e => absurd e (by omega))
    · rw [nI_add]
      exact H2 _ (by omega) (by omega) (fun e => absurd e (by omega))
  have n201 : k ≠ 7 → i = 0 → wX_need_201 post (nI n) (nI (16 * A)) a1 a2 a3 a4 a5 a6 a7 a8 a9 := by
    intro hk' hi0
    unfold wX_need_201
    refine pk_le n 0 (fun z => H1 (fun e => absurd e hk')) (fun z => ?_)
    rw [nI_add, zs_s1 (by omega)]
    exact H2 _ (by omega) (by omega) (fun e => absurd e hk')
  have n150 : k ≠ 7 → wX_need_150 post (nI i) (nI n) (nI (16 * A)) (nI k) a1 a2 a3 a4 a5 a6 a7 a8 a9 := by
    intro hk'
    unfold wX_need_150
    refine pk_lt 0 i (fun z => H1 (fun e => absurd e hk')) (fun z => ?_)
    refine pk_lt 1 k (fun z1 => ?_) (fun z1 => H1 (fun e => absurd e hk'))
    refine pk_eq k 5 (fun z5 => ?_) (fun z5 => ?_)
    · refine pk_le 15 n (fun z => H1 (fun e => absurd e hk')) (fun z => ?_)
      rw [nI_add, nI_1]
      exact H2 _ (by omega) (by omega) (fun e => absurd e hk')
    · refine pk_eq k 6 (fun z6 => n201 hk' (by omega)) (fun z6 => ?_)
      refine pk_eq k 8 (fun z8 => n201 hk' (by omega)) (fun z8 => ?_)
      rw [nI_add]
      exact H2 _ (by omega) (by omega) (fun e => absurd e hk')
  unfold wpX_need
  dsimp only
  refine nm_r es (nm_r en ⟨pk_in s 8 hs, nm_r (e' := nI (16 * A)) (by rw [cs, h2]; exact zs_16 A) ⟨pk_in s 8 hs, nm_r (e' := nI k) (by rw [cs]; exact h1) ?_⟩⟩)
  refine pk_eq k 3 (fun z => n42 (by omega)) (fun z3 => ?_)
  refine pk_eq k 9 (fun z => n42 (by omega)) (fun z9 => ?_)
  refine pk_eq k 7 (fun z7 => ?_) (fun z7 => ?_)
  · refine pk_lt n i (fun z => ?_) (fun z => ?_)
    · refine pk_lt (2 * n) i (fun z' => H1 (fun _ => z')) (fun z' => ?_) (hx := zs_2 n)
      have e : (((16 : Int32) * nI s + nI i) - nI n) - 1 = nI (16 * s + (i - n - 1)) := by
        rw [zs_16, nI_add, pk_sub (by omega), zs_s1 (by omega)]
        exact congrArg nI (by omega)
      rw [e]
      exact H2 _ (by omega) (by omega) (fun _ => Or.inr ⟨z, z', rfl⟩)
    · rw [nI_add]
      exact H2 _ (by omega) (by omega) (fun _ => Or.inl ⟨z, rfl⟩)
  · refine pk_eq k 2 (fun z2 => ?_) (fun z2 => n150 z7)
    refine pk_eq i 1 (fun zi => ⟨pk_in s 8 hs, ?_⟩) (fun zi => n150 z7)
    have hB8 := hB (by omega)
    have e : (16 : Int32) * a3 (nI s).toNatClampNeg + nI n = nI (16 * B + n) := by
      rw [cs, h3, zs_16, nI_add]
    rw [e]
    exact H2 _ (by omega) (by omega) (fun e => absurd e z7)
theorem zs_prod {post : Int32 → Prop} {l r f n : Nat} (hv : zs_R a5 128 97) (hf : f ≤ n + 1) (hn : n < 16) (hl : l + n < 128) (hr : r + n < 128)
    (H : ∀ t, t < 97 → t = zs_S (fun j => zs_v a5 (l + (f + j)) * zs_v a5 (r + n - (f + j))) (n + 1 - f) % 97 → post (nI t)) :
    wpX_product post (a1, a2, a3, a4, a5, a6, a7, a8, a9) (nI l) (nI r) (nI f) (nI n) := by
  unfold wpX_product
  dsimp only
  refine pk_loop (fun m k s => wX_product_6 post (nI l) (nI r) (nI n) a1 a2 a3 a4 a5 a6 a7 a8 a9 m s (nI (f + k))) (fun k s => ∃ t, t < 97 ∧ s = nI t ∧ t = zs_S (fun j => zs_v a5 (l + (f + j)) * zs_v a5 (r + n - (f + j))) k % 97) (n + 1 - f) 0 (0 : Int32) (by omega) ⟨0, by omega, rfl, rfl⟩ ?_ ?_
  · intro m s hs
    obtain ⟨t, ht, es, et⟩ := hs
    subst es
    exact pk_lt n (f + (n + 1 - f)) (fun _ => H t ht et) (fun z => absurd z (by omega))
  · intro m k s hk hs hw
    obtain ⟨t, ht, es, et⟩ := hs
    subst es
    have e1 : (nI l + nI (f + k)).toNatClampNeg = l + (f + k) := pk_cl _ (nI_add _ _)
    have q2 : nI r + nI n - nI (f + k) = nI (r + n - (f + k)) := by rw [nI_add, pk_sub (by omega)]
    have e2 : (nI r + nI n - nI (f + k)).toNatClampNeg = r + n - (f + k) := pk_cl _ q2
    have v1 := zs_Rv hv (by omega) (show l + (f + k) < 128 by omega)
    have v2 := zs_Rv hv (by omega) (show r + n - (f + k) < 128 by omega)
    refine pk_lt n (f + k) (fun z => absurd z (by omega)) (fun z => ⟨pk_in (l + (f + k)) 128 (by omega) (nI_add _ _), pk_in (r + n - (f + k)) 128 (by omega) q2, by decide, nm_r (e' := nI ((t + zs_v a5 (l + (f + k)) * zs_v a5 (r + n - (f + k))) % 97)) ?_ (nm_r (nI_1 (f + k)) (hw _ ⟨_, ?_, rfl, ?_⟩))⟩)
    · rw [e1, e2]
      exact zs_step v1.1 v2.1 ht v1.2 v2.2
    · exact Nat.mod_lt _ (by decide)
    · rw [et]
      show _ = (zs_S _ k + _) % 97
      rw [Nat.mod_add_mod]
theorem zs_times {post : Int32 → Prop} {x y : Int32} {b i : Nat} (hx : x = nI b) (hy : y = nI i) (hv : zs_R a5 128 97) (hs : zs_R a8 16 97) (hi : i < 16) (hb : b + i < 128) (H : ∀ t, t < 97 → post (nI t)) :
    wpX_timesInner post (a1, a2, a3, a4, a5, a6, a7, a8, a9) x y := by
  subst hx hy
  unfold wpX_timesInner
  dsimp only
  refine pk_loop (fun m k s => wX_timesInner_5 post (nI b) (nI i) a1 a2 a3 a4 a5 a6 a7 a8 a9 m s (nI (1 + k))) (fun k s => ∃ t, t < 97 ∧ s = nI t) i 0 (0 : Int32) (by omega) ⟨0, by omega, rfl⟩ ?_ ?_
  · intro m s hs
    obtain ⟨t, ht, es⟩ := hs
    subst es
    exact pk_lt i (1 + i) (fun _ => H t ht) (fun z => absurd z (by omega))
  · intro m k s hk hs' hw
    obtain ⟨t, ht, es⟩ := hs'
    subst es
    have e1 : (nI b + nI (1 + k)).toNatClampNeg = b + (1 + k) := pk_cl _ (nI_add _ _)
    have q2 : nI i - nI (1 + k) = nI (i - (1 + k)) := pk_sub (by omega)
    have e2 : (nI i - nI (1 + k)).toNatClampNeg = i - (1 + k) := pk_cl _ q2
    have v1 := zs_Rv hv (by omega) (show b + (1 + k) < 128 by omega)
    have v2 := zs_Rv hs (by omega) (show i - (1 + k) < 16 by omega)
    refine pk_lt i (1 + k) (fun z => absurd z (by omega)) (fun z => ⟨pk_in (b + (1 + k)) 128 (by omega) (nI_add _ _), pk_in (i - (1 + k)) 16 (by omega) q2, by decide, nm_r (e' := nI ((t + zs_v a5 (b + (1 + k)) * zs_v a8 (i - (1 + k))) % 97)) ?_ (nm_r (nI_1 (1 + k)) (hw _ ⟨_, ?_, rfl⟩))⟩)
    · rw [e1, e2]
      exact zs_step v1.1 v2.1 ht v1.2 v2.2
    · exact Nat.mod_lt _ (by decide)
theorem zs_c34 {post : Int32 → St1 → Prop} {J : Int32 → (Nat → Int32) → (Nat → Int32) → (Nat → Int32) → (Nat → Int32) → (Nat → Int32) → (Nat → Int32) → (Nat → Int32) → (Nat → Int32) → (Nat → Int32) → Prop} {l b n j : Nat}
    (hv : zs_R a5 128 97) (hs : zs_R a8 16 97) (hn : n < 16) (hj : j ≤ n) (hl : l + n < 128) (hb : b + n < 128) (H : ∀ s, zs_R s 16 97 → J (zs_d j) a1 a2 a3 a4 a5 a6 a7 s a9) :
    ∃ fu, wX_composed_34 post J (nI l) (nI b) (nI n) (nI j) fu (nI n) a1 a2 a3 a4 a5 a6 a7 a8 a9 := by
  refine ⟨_, pk_loopD (fun m k s => wX_composed_34 post J (nI l) (nI b) (nI n) (nI j) m (zs_d k) a1 a2 a3 a4 a5 a6 a7 s a9) (fun k s => k ≤ n + 1 ∧ zs_R s 16 97) ?_ ?_ (n + 1) a8 ⟨by omega, hs⟩⟩
  · intro m s h
    have v1 := zs_Rv hv (by omega) (show l + j < 128 by omega)
    have v2 := zs_Rv h.2 (by omega) (show 0 < 16 by omega)
    have e1 : (nI l + nI j).toNatClampNeg = l + j := pk_cl _ (nI_add _ _)
    refine br_t (show (-1 : Int32) < 0 by decide) ⟨pk_in (l + j) 128 (by omega) (nI_add _ _), by decide, nm_r (e' := upd s 0 (nI ((zs_v s 0 + zs_v a5 (l + j)) % 97))) ?_ (nm_r (zs_d1 j) (H _ (zs_Ru h.2 (Nat.mod_lt _ (by decide)))))⟩
    rw [e1]
    exact congrArg (upd s 0) (zs_rem _ (by rw [v1.1, v2.1, nI_add]) (by omega))
  · intro m k s h hw
    refine br_f (show ¬ nI k < 0 from nI_pos (by omega)) (zs_times rfl rfl hv h.2 (by omega) (by omega) (fun t ht => ⟨pk_in k 16 (by omega), nm_r (e' := upd s k (nI t)) ?_ (nm_r (zs_d1 k) (hw _ ⟨by omega, zs_Ru h.2 ht⟩))⟩))
    show upd s (nI k).toNatClampNeg (nI t) = _
    rw [nI_clamp (by omega)]
theorem zs_comp {post : Int32 → St1 → Prop} {l b n : Nat} (hv : zs_R a5 128 97) (hs : zs_R a8 16 97) (hn : n < 16) (hl : l + n < 128) (hb : b + n < 128)
    (H : ∀ t s, t < 97 → zs_R s 16 97 → post (nI t) (a1, a2, a3, a4, a5, a6, a7, s, a9)) :
    wpX_composed post (a1, a2, a3, a4, a5, a6, a7, a8, a9) (nI l) (nI b) (nI n) := by
  unfold wpX_composed
  dsimp only
  refine pk_loop (fun m k s => wX_composed_3 post (nI l) (nI b) (nI n) m (nI k) a1 a2 a3 a4 a5 a6 a7 s a9) (fun k s => zs_R s 16 97) (n + 1) 0 a8 (by omega) hs ?_ ?_
  · intro m s h
    refine pk_lt n (n + 1) (fun _ => ?_) (fun z => absurd z (by omega))
    refine ⟨_, pk_loopD (fun m k s => wX_composed_26 post (nI l) (nI b) (nI n) m (zs_d k) a1 a2 a3 a4 a5 a6 a7 s a9) (fun k s => k ≤ n + 1 ∧ zs_R s 16 97) ?_ ?_ (n + 1) s ⟨by omega, h⟩⟩
    · intro m s h
      have v := zs_Rv h.2 (by omega) hn
      refine br_t (show (-1 : Int32) < 0 by decide) ⟨pk_in n 16 hn, ?_⟩
      rw [nI_clamp (by omega), v.1]
      exact H _ _ v.2 h.2
    · intro m k s h hw
      exact br_f (show ¬ nI k < 0 from nI_pos (by omega)) (zs_c34 hv h.2 hn (by omega) hl hb (fun s' h' => hw s' ⟨by omega, h'⟩))
  · intro m k s hk h hw
    refine pk_lt n k (fun z => absurd z (by omega)) (fun _ => ⟨pk_in k 16 (by omega), nm_r (e' := upd s k (nI 0)) ?_ (nm_r (nI_1 k) (hw _ (zs_Ru h (by omega))))⟩)
    rw [nI_clamp (by omega)]
    rfl
end
end
section
/-! compute and computeLong -/
section
variable {a1 a2 a3 a4 a5 a6 a7 a8 a9 : Nat → Int32}
/-- the equation that a computed value x of a reciprocal's place p solves -/
def zs_q (a5 : Nat → Int32) (A p x : Nat) : Prop := (zs_v a5 (16 * A) * x + zs_S (fun j => zs_v a5 (16 * A + (1 + j)) * zs_v a5 (p - (1 + j))) (p % 16)) % 97 = if p % 16 = 0 then 1 else 0
theorem zs_c247 {post : Int32 → St1 → Prop} {p : Nat} {z : Int32} (x : Nat) (hz : z = nI x) (hx : x < 2 ^ 31) (hp : p < 128) (H : ∀ y, y < 97 → post 1 (a1, a2, a3, a4, upd a5 p (nI y), a6, a7, a8, a9)) : wX_compute_247 post (nI p) z a1 a2 a3 a4 a5 a6 a7 a8 a9 := by
  subst hz
  unfold wX_compute_247
  refine ⟨by decide, pk_in p 128 hp, nm_r (e' := upd a5 p (nI (x % 97))) ?_ (H _ (Nat.mod_lt _ (by decide)))⟩
  rw [nI_clamp (by omega), zs_rem x rfl hx]
theorem zs_clong {post : Int32 → St1 → Prop} {p k A B : Nat} (hp : p < 128)
    (h1 : a1 (p / 16) = nI k) (hk : k = 3 ∨ k = 7 ∨ k = 9) (h2 : a2 (p / 16) = nI A) (hA : A < 8) (h3 : a3 (p / 16) = nI B) (hB : k = 2 ∨ k = 3 ∨ k = 9 → B < 8)
    (hv : zs_R a5 128 97) (hs : zs_R a8 16 97) (h9 : zs_V a9)
    (H0 : post 0 (a1, a2, a3, a4, a5, a6, a7, a8, a9))
    (H1 : ∀ x s, x < 97 → zs_R s 16 97 → (k = 7 → zs_q a5 A p x) → post 1 (a1, a2, a3, a4, upd a5 p (nI x), a6, a7, s, a9)) :
    wpX_computeLong post (a1, a2, a3, a4, a5, a6, a7, a8, a9) (nI p) := by
  have hs8 : p / 16 < 8 := by omega
  have hn : p % 16 < 16 := by omega
  have es : nI p >>> ((4 : Int32) &&& 31) = nI (p / 16) := pk_shrN (by omega) _ 4 (by decide)
  have en : nI p &&& 15 = nI (p % 16) := pk_andN (by omega) 4 (by decide)
  have cs : (nI (p / 16)).toNatClampNeg = p / 16 := nI_clamp (by omega)
  have cp : (nI p).toNatClampNeg = p := nI_clamp (by omega)
  unfold wpX_computeLong
  dsimp only
  refine nm_r es (nm_r en ⟨pk_in _ 8 hs8, nm_r (e' := nI (16 * A)) (by rw [cs, h2]; exact zs_16 A) ⟨pk_in _ 8 hs8, nm_r (e' := nI (16 * B)) (by rw [cs, h3]; exact zs_16 B) ⟨pk_in _ 8 hs8, ?_⟩⟩⟩)
  rw [cs, cp]
  refine pk_eq k 3 (fun z3 => ?_) (fun z3 => ⟨pk_in _ 8 hs8, ?_⟩) (hx := h1)
  · have hB8 := hB (by omega)
    exact zs_prod (f := 0) hv (by omega) hn (by omega) (by omega) (fun t ht _ => ⟨pk_in p 128 hp, nm_e (H1 t a8 ht hs (fun e => absurd e (by omega)))⟩)
  refine pk_eq k 7 (fun z7 => ⟨pk_in (16 * A) 128 (by omega), ?_⟩) (fun z7 => ?_) (hx := h1)
  · have cA : (nI (16 * A)).toNatClampNeg = 16 * A := nI_clamp (by omega)
    have v0 := zs_Rv hv (by omega) (show 16 * A < 128 by omega)
    obtain ⟨fi, hfi, ef, hf⟩ := h9 _ v0.2
    rw [cA, v0.1]
    have c0 : (nI (zs_v a5 (16 * A))).toNatClampNeg = zs_v a5 (16 * A) := nI_clamp (by omega)
    refine pk_eq (zs_v a5 (16 * A)) 0 (fun _ => H0) (fun z0 => ⟨pk_in (16 * A) 128 (by omega), pk_in _ 97 v0.2, nm_r (e' := nI fi) (by rw [c0]; exact ef) ?_⟩)
    have hf1 := hf (by omega)
    rw [zs_16]
    refine zs_prod (f := 1) hv (by omega) hn (by omega) (by omega) (fun t ht et => ?_)
    refine pk_eq (p % 16) 0 (fun zn => ⟨pk_in p 128 hp, nm_e (H1 fi a8 hfi hs (fun _ => ?_))⟩) (fun zn => ⟨by decide, pk_in p 128 hp, nm_r (e' := upd a5 p (nI ((97 - t) * fi % 97))) ?_ (H1 _ a8 (Nat.mod_lt _ (by decide)) hs (fun _ => ?_))⟩)
    · unfold zs_q
      rw [zn, if_pos rfl]
      show (zs_v a5 (16 * A) * fi + 0) % 97 = 1
      rw [Nat.add_zero]
      exact hf1
    · have hm := zs_m97 (show 97 - t - 1 < 97 by omega) hfi
      have hb : (97 - t) * fi < 2 ^ 31 := Nat.lt_of_le_of_lt (Nat.mul_le_mul (show 97 - t ≤ 97 by omega) (show fi ≤ 97 by omega)) (by decide)
      exact congrArg (upd a5 p) (zs_rem _ (by rw [show (97 : Int32) - nI t = nI (97 - t) from pk_sub (a := 97) (by omega), pk_mul]) hb)
    · unfold zs_q
      rw [if_neg zn]
      refine zs_rec hf1 ?_
      rw [et]
      refine congrArg (· % 97) (zs_Sc _ (fun j hj => ?_))
      rw [show 16 * (p / 16) + p % 16 = p by omega]
  · have hB8 := hB (by omega)
    have cB : (nI (16 * B)).toNatClampNeg = 16 * B := nI_clamp (by omega)
    refine ⟨pk_in (16 * B) 128 (by omega), br_c (fun _ => ?_) (fun _ => H0)⟩
    exact zs_comp hv hs hn (by omega) (by omega) (fun t s ht h => ⟨pk_in p 128 hp, nm_e (H1 t s ht h (fun e => absurd e z7))⟩)
theorem zs_compute {post : Int32 → St1 → Prop} {x : Int32} {p k A B : Nat} (hx : x = nI p) (hp : p < 128)
    (h1 : a1 (p / 16) = nI k) (hk : k < 10) (h2 : a2 (p / 16) = nI A) (hA : A < 8) (h3 : a3 (p / 16) = nI B) (hB7 : B < 97) (hB : k = 2 ∨ k = 3 ∨ k = 9 → B < 8)
    (hv : zs_R a5 128 97) (hs : zs_R a8 16 97) (h9 : zs_V a9)
    (H0 : post 0 (a1, a2, a3, a4, a5, a6, a7, a8, a9))
    (H1 : ∀ x s, x < 97 → zs_R s 16 97 → (k = 7 → zs_q a5 A p x) → post 1 (a1, a2, a3, a4, upd a5 p (nI x), a6, a7, s, a9)) :
    wpX_compute post (a1, a2, a3, a4, a5, a6, a7, a8, a9) x := by
  subst hx
  have hs8 : p / 16 < 8 := by omega
  have hn : p % 16 < 16 := by omega
  have es : nI p >>> ((4 : Int32) &&& 31) = nI (p / 16) := pk_shrN (by omega) _ 4 (by decide)
  have en : nI p &&& 15 = nI (p % 16) := pk_andN (by omega) 4 (by decide)
  have cs : (nI (p / 16)).toNatClampNeg = p / 16 := nI_clamp (by omega)
  have H1' : k ≠ 7 → ∀ y, y < 97 → post 1 (a1, a2, a3, a4, upd a5 p (nI y), a6, a7, a8, a9) := fun hk' y hy => H1 y a8 hy hs (fun e => absurd e hk')
  have V : ∀ j, j < 128 → ∃ v, v < 97 ∧ a5 j = nI v := hv
  have hclong : k = 3 ∨ k = 7 ∨ k = 9 → wpX_computeLong (fun r u => match u with | (b1, b2, b3, b4, b5, b6, b7, b8, b9) => (narrow .boolean (.int r) = .int r ∧ (post r (b1, b2, b3, b4, b5, b6, b7, b8, b9)))) (a1, a2, a3, a4, a5, a6, a7, a8, a9) (nI p) := by
    intro hk'
    exact zs_clong hp h1 hk' h2 hA h3 hB hv hs h9 ⟨rfl, H0⟩ (fun x s hx h e => ⟨rfl, H1 x s hx h e⟩)
  unfold wpX_compute
  dsimp only
  refine nm_r es (nm_r en ⟨pk_in _ 8 hs8, nm_r (e' := nI (16 * A)) (by rw [cs, h2]; exact zs_16 A) ⟨pk_in _ 8 hs8, nm_r (e' := nI B) (by rw [cs]; exact h3) ⟨pk_in _ 8 hs8, nm_r (e' := nI k) (by rw [cs]; exact h1) ?_⟩⟩⟩)
  generalize p % 16 = n at *
  refine pk_eq k 0 (fun z => ?_) (fun z0 => ?_)
  · exact pk_eq n 0 (fun _ => zs_c247 B rfl (by omega) hp (H1' (by omega))) (fun _ => zs_c247 0 rfl (by omega) hp (H1' (by omega)))
  refine pk_eq k 1 (fun z => ?_) (fun z1 => ?_)
  · exact pk_eq n 1 (fun _ => zs_c247 1 rfl (by omega) hp (H1' (by omega))) (fun _ => zs_c247 0 rfl (by omega) hp (H1' (by omega)))
  refine pk_eq k 2 (fun z => ?_) (fun z2 => ?_)
  · have hB8 := hB (by omega)
    have q1 : nI (16 * A) + nI n = nI (16 * A + n) := nI_add _ _
    have q2 : (16 : Int32) * nI B + nI n = nI (16 * B + n) := by rw [zs_16, nI_add]
    obtain ⟨v, hv1, ev⟩ := V (16 * A + n) (by omega)
    obtain ⟨w, hw1, ew⟩ := V (16 * B + n) (by omega)
    refine ⟨pk_in (16 * A + n) 128 (by omega) q1, pk_in (16 * B + n) 128 (by omega) q2, nm_r (e' := nI (v + w)) ?_ (zs_c247 _ rfl (by omega) hp (H1' (by omega)))⟩
    rw [pk_cl _ q1, pk_cl _ q2, ev, ew, nI_add]
  refine pk_eq k 4 (fun z => ?_) (fun z4 => ?_)
  · have q1 : nI (16 * A) + nI n = nI (16 * A + n) := nI_add _ _
    obtain ⟨v, hv1, ev⟩ := V (16 * A + n) (by omega)
    have hm := zs_m97 hB7 hv1
    refine ⟨pk_in (16 * A + n) 128 (by omega) q1, nm_r (e' := nI (B * v)) ?_ (zs_c247 _ rfl (by omega) hp (H1' (by omega)))⟩
    rw [pk_cl _ q1, ev, pk_mul]
  refine pk_eq k 5 (fun z => ?_) (fun z5 => ?_)
  · refine pk_eq n 15 (fun _ => H0) (fun zn => ?_)
    have q1 : nI (16 * A) + nI n + 1 = nI (16 * A + n + 1) := by rw [nI_add, nI_1]
    obtain ⟨v, hv1, ev⟩ := V (16 * A + n + 1) (by omega)
    have hm := zs_m97 (show n + 1 < 97 by omega) hv1
    refine ⟨pk_in (16 * A + n + 1) 128 (by omega) q1, nm_r (e' := nI ((n + 1) * v)) ?_ (zs_c247 _ rfl (by omega) hp (H1' (by omega)))⟩
    rw [pk_cl _ q1, ev, nI_1, pk_mul]
  refine pk_eq k 6 (fun z => ?_) (fun z6 => ?_)
  · refine pk_eq n 0 (fun _ => zs_c247 B rfl (by omega) hp (H1' (by omega))) (fun zn => ?_)
    have q1 : nI (16 * A) + nI n - 1 = nI (16 * A + n - 1) := by rw [nI_add, zs_s1 (by omega)]
    obtain ⟨v, hv1, ev⟩ := V (16 * A + n - 1) (by omega)
    obtain ⟨w, hw1, ew, _⟩ := h9 n (by omega)
    have hm := zs_m97 hv1 hw1
    refine ⟨pk_in (16 * A + n - 1) 128 (by omega) q1, pk_in n 97 (by omega), zs_c247 (v * w) ?_ (by omega) hp (H1' (by omega))⟩
    rw [pk_cl _ q1, nI_clamp (by omega), ev, ew, pk_mul]
  refine pk_eq k 8 (fun z => ?_) (fun z8 => ?_)
  · refine pk_eq n 0 (fun _ => zs_c247 B rfl (by omega) hp (H1' (by omega))) (fun zn => ?_)
    have q1 : nI (16 * A) + nI n - 1 = nI (16 * A + n - 1) := by rw [nI_add, zs_s1 (by omega)]
    obtain ⟨v, hv1, ev⟩ := V (16 * A + n - 1) (by omega)
    refine ⟨pk_in (16 * A + n - 1) 128 (by omega) q1, zs_c247 v ?_ (by omega) hp (H1' (by omega))⟩
    rw [pk_cl _ q1, ev]
  exact hclong (by omega)
end
end
section
/-! force -/
section
variable {a1 a2 a3 a4 a5 a6 a7 a8 a9 : Nat → Int32}
theorem zs_nm1 {w : Nat} (h : w < 2 ^ 31) : ¬ nI w = (-1) := fun e => nI_pos h (by rw [e]; decide)
theorem zs_c7 {a : Nat → Int32} {s k : Nat} (h : a s = nI k) (hk : k < 10) : a s = 7 ↔ k = 7 := by
  rw [h]
  exact nI_eq (b := 7) (by omega) (by decide)
theorem zs_cB {a1 a2 a3 a9 : Nat → Int32} {s : Nat} (g : zs_G a1 a2 a3 a9) (hs : s < 8) (h : zs_v a1 s = 2 ∨ zs_v a1 s = 3 ∨ zs_v a1 s = 9) : zs_v a3 s < 8 := by
  obtain ⟨g1, g2, g3, g4, g9⟩ := g
  have v := (zs_Rv g1 (by omega) hs).1
  refine g4 s hs ?_
  rcases h with h | h | h
  · exact Or.inl (by rw [v, h]; rfl)
  · exact Or.inr (Or.inl (by rw [v, h]; rfl))
  · exact Or.inr (Or.inr (by rw [v, h]; rfl))
theorem zs_fl {post : Int32 → St1 → Prop} {P : Nat} {c4 c5 : Nat → Int32} (hP : P < 128) (g : zs_G a1 a2 a3 a9)
    (H : ∀ (r : Int32) (b4 b5 b6 b7 b8 : Nat → Int32), zs_Y a1 a2 b4 b5 b8 → zs_M c4 c5 b4 b5 → (r = 1 ∧ b4 P = 2 ∨ r = 0 ∧ ¬ b4 P = 2) → post r (a1, a2, a3, b4, b5, b6, b7, b8, a9))
    (D st : Nat) (hst : st ≤ 20000) (hY : zs_Y a1 a2 a4 a5 a8) (hM : zs_M c4 c5 a4 a5) (hT : zs_T a1 a2 a4 a6 a7 D) :
    ∃ n, wX_force_35 post (nI P) n (zs_d D) (nI st) a1 a2 a3 a4 a5 a6 a7 a8 a9 := by
  refine lp7 (fun n D st a4 a5 a6 a7 a8 => wX_force_35 post (nI P) n (zs_d D) (nI st) a1 a2 a3 a4 a5 a6 a7 a8 a9)
    (fun D st a4 a5 a6 a7 a8 => st ≤ 20000 ∧ zs_Y a1 a2 a4 a5 a8 ∧ zs_M c4 c5 a4 a5 ∧ zs_T a1 a2 a4 a6 a7 D)
    (fun D st _ _ _ _ _ => 20000 - st) ?_ D st a4 a5 a6 a7 a8 ⟨hst, hY, hM, hT⟩
  clear hst hY hM hT
  intro n D st a4 a5 a6 a7 a8 hI hw
  obtain ⟨hst, hY, hM, hT⟩ := hI
  have cP : (nI P).toNatClampNeg = P := nI_clamp (by omega)
  have ex : wX_force_165 post (nI P) a1 a2 a3 a4 a5 a6 a7 a8 a9 := by
    unfold wX_force_165
    rw [cP]
    exact ⟨pk_in P 128 hP, br_c (fun h2 => H 1 _ _ _ _ _ hY hM (Or.inl ⟨rfl, h2⟩)) (fun h2 => H 0 _ _ _ _ _ hY hM (Or.inr ⟨rfl, h2⟩))⟩
  refine pk_le 20000 st (fun _ => ex) (fun z => ?_)
  cases D with
  | zero => exact br_t (show (-1 : Int32) < 0 by decide) ex
  | succ d =>
    obtain ⟨q, t, hq, ht, eq, et, h4, hN⟩ := hT.1 d (by omega)
    have hd : d < 128 := by
      have := hT.2.2
      omega
    have cd : (nI d).toNatClampNeg = d := nI_clamp (by omega)
    have cq : (nI q).toNatClampNeg = q := nI_clamp (by omega)
    have hs8 : q / 16 < 8 := by omega
    have v1 := zs_Rv g.1 (by omega) hs8
    have v2 := zs_Rv g.2.1 (by omega) hs8
    have v3 := zs_Rv g.2.2.1 (by omega) hs8
    have n2 : ¬ a4 q = 2 := by rw [h4]; exact zs_i12
    have k7 := zs_c7 v1.1 v1.2
    obtain ⟨y5, y8, yF⟩ := hY
    refine br_f (show ¬ nI d < 0 from nI_pos (by omega)) ⟨pk_in d 128 hd, nm_r (e' := nI q) (by show a6 (nI d).toNatClampNeg = _; rw [cd]; exact eq) ⟨pk_in d 128 hd, ?_⟩⟩
    refine zs_need rfl (show a7 (nI d).toNatClampNeg = nI t by rw [cd]; exact et) hq ht v1.1 v1.2 v2.1 v2.2 v3.1 (zs_cB g hs8) (fun hno => ?_) (fun w hwb ht31 hw7 => ?_)
    · refine br_t rfl (zs_compute rfl hq v1.1 v1.2 v2.1 v2.2 v3.1 v3.2 (zs_cB g hs8) y5 y8 g.2.2.2.2 ?_ ?_)
      · exact br_t rfl ⟨pk_in q 128 hq, nm_r (e' := upd a4 q 3) (by rw [cq]) (nm_r (zs_d1 d) (nm_r (nI_1 st) (hw d (st + 1) _ _ _ _ _ ⟨by omega, ⟨y5, y8, zs_Fc n2 zs_i32 yF⟩, zs_Mt hM (zs_M4 n2), zs_Tpop hT eq h4 zs_i30⟩ (by omega))))⟩
      · intro x s hx hs hq7
        refine br_f zs_i10 ⟨pk_in q 128 hq, nm_r (e' := upd a4 q 2) (by rw [cq]) (nm_r (zs_d1 d) (nm_r (nI_1 st) (hw d (st + 1) _ _ _ _ _ ⟨by omega, ⟨zs_Ru y5 hx, hs, zs_F2 n2 (zs_F5 n2 yF) (fun h7 => ?_)⟩, zs_Mt hM (zs_Mt (zs_M5 n2) (zs_M4 n2)), zs_Tpop hT eq h4 zs_i20⟩ (by omega))))⟩
        have hn := hno (k7.mp h7)
        have f1 : ∀ i, i ≤ q % 16 → a4 (16 * zs_v a2 (q / 16) + i) = 2 := fun i hi => (hN h7 i (by omega)).1 hi
        have f2 : ∀ j, j < q % 16 → a4 (16 * (q / 16) + j) = 2 := by
          intro j hj
          have := (hN h7 (q % 16 + 1 + j) (by omega)).2 (by omega) (by omega)
          rw [show q % 16 + 1 + j - q % 16 - 1 = j by omega] at this
          exact this
        exact ⟨f1, f2, zs_sol n2 hx f1 f2 (hq7 (k7.mp h7))⟩
    · have cw : (nI w).toNatClampNeg = w := nI_clamp (by omega)
      refine br_f (zs_nm1 (by omega)) ⟨pk_in w 128 hwb, br_c (fun hf => ?_) (fun hf => ⟨pk_in w 128 hwb, br_c (fun h0 => ?_) (fun h0 => ?_)⟩)⟩
      · rw [cw] at hf
        refine ⟨pk_in d 128 hd, pk_in d 128 hd, nm_r (e' := upd a7 d (nI (t + 1))) ?_ (nm_r (nI_1 st) (hw (d + 1) (st + 1) _ _ _ _ _ ⟨by omega, ⟨y5, y8, yF⟩, hM, zs_Tinc hT eq hq et ht31 (fun h7 => ?_)⟩ (by omega)))⟩
        · show upd a7 (nI d).toNatClampNeg (a7 (nI d).toNatClampNeg + 1) = _
          rw [cd, et, nI_1]
        · rcases hw7 (k7.mp h7) with ⟨l1, l2⟩ | ⟨l1, l2, l3⟩
          · rw [l2] at hf
            exact ⟨fun _ => hf, fun e => absurd e (by omega)⟩
          · rw [l3] at hf
            exact ⟨fun e => absurd e (by omega), fun _ _ => hf⟩
      · rw [cw] at h0
        have hr := zs_room hT hwb h0
        have n2w : ¬ a4 w = 2 := by rw [h0]; exact zs_i02
        refine nm_r (nI_1 d) ?_
        unfold wpX_enter
        dsimp only
        have cd1 : (nI (d + 1)).toNatClampNeg = d + 1 := nI_clamp (by omega)
        rw [cd1, cw]
        exact ⟨pk_in (d + 1) 128 hr, nm_e ⟨pk_in (d + 1) 128 hr, nm_e ⟨pk_in w 128 hwb, nm_e (nm_r (nI_1 st) (hw (d + 2) (st + 1) _ _ _ _ _ ⟨by omega, ⟨y5, y8, zs_Fc n2w zs_i12 yF⟩, zs_Mt hM (zs_M4 n2w), zs_Tpush hT hwb h0⟩ (by omega)))⟩⟩⟩
      · exact ⟨pk_in q 128 hq, nm_r (e' := upd a4 q 3) (by rw [cq]) (nm_r (zs_d1 d) (nm_r (nI_1 st) (hw d (st + 1) _ _ _ _ _ ⟨by omega, ⟨y5, y8, zs_Fc n2 zs_i32 yF⟩, zs_Mt hM (zs_M4 n2), zs_Tpop hT eq h4 zs_i30⟩ (by omega))))⟩
theorem zs_force {post : Int32 → St1 → Prop} {x : Int32} {P : Nat} (hx : x = nI P) (hP : P < 128) (g : zs_G a1 a2 a3 a9) (hY : zs_Y a1 a2 a4 a5 a8)
    (H : ∀ (r : Int32) (b4 b5 b6 b7 b8 : Nat → Int32), zs_Y a1 a2 b4 b5 b8 → zs_M a4 a5 b4 b5 → (r = 1 ∧ b4 P = 2 ∨ r = 0 ∧ ¬ b4 P = 2) → post r (a1, a2, a3, b4, b5, b6, b7, b8, a9)) :
    wpX_force post (a1, a2, a3, a4, a5, a6, a7, a8, a9) x := by
  subst hx
  have cP : (nI P).toNatClampNeg = P := nI_clamp (by omega)
  unfold wpX_force
  dsimp only
  rw [cP]
  refine ⟨pk_in P 128 hP, br_c (fun h0 => ?_) (fun h0 => ⟨pk_in P 128 hP, br_c (fun h2 => H 1 _ _ _ _ _ hY (zs_Mr _ _) (Or.inl ⟨rfl, h2⟩)) (fun h2 => H 0 _ _ _ _ _ hY (zs_Mr _ _) (Or.inr ⟨rfl, h2⟩))⟩)⟩
  have n2 : ¬ a4 P = 2 := by rw [h0]; exact zs_i02
  have hT0 : zs_T a1 a2 a4 a6 a7 0 := ⟨fun d hd => absurd hd (by omega), fun d e hd => absurd hd (by omega), by have := zs_Cle a4 128; omega⟩
  unfold wpX_enter
  dsimp only
  rw [cP, sb_cl0]
  exact ⟨pk_in 0 128 (by omega), nm_e ⟨pk_in 0 128 (by omega), nm_e ⟨pk_in P 128 hP, nm_e (zs_fl hP g H 1 0 (by omega) ⟨hY.1, hY.2.1, zs_Fc n2 zs_i12 hY.2.2⟩ (zs_M4 n2) (zs_Tpush hT0 hP h0))⟩⟩⟩
end
end
section
/-! known, valued, kindOf, coefficient; then inverse and holds of the law -/
section
variable {a1 a2 a3 a4 a5 a6 a7 a8 a9 : Nat → Int32}
theorem zs_ser {post : Int32 → Prop} {s : Nat} (hs : s < 8) (H : post 1) : wpX_isSeries post () (nI s) :=
  br_f (nI_pos (by omega)) (pk_lt 7 s (fun z => absurd z (by omega)) (fun _ => H))
theorem zs_known {post : Int32 → St1 → Prop} {s : Nat} (hs : s < 8) (g : zs_G a1 a2 a3 a9) (hY : zs_Y a1 a2 a4 a5 a8)
    (H : ∀ (k : Nat) (b4 b5 b6 b7 b8 : Nat → Int32), k ≤ 16 → zs_Y a1 a2 b4 b5 b8 → zs_M a4 a5 b4 b5 → (∀ m, m < k → b4 (16 * s + m) = 2) → post (nI k) (a1, a2, a3, b4, b5, b6, b7, b8, a9)) :
    wpX_known post (a1, a2, a3, a4, a5, a6, a7, a8, a9) (nI s) := by
  unfold wpX_known
  dsimp only
  refine zs_ser hs (br_f zs_i10 ?_)
  refine lp6 (fun m i b4 b5 b6 b7 b8 => wX_known_11 post (nI s) m (nI i) a1 a2 a3 b4 b5 b6 b7 b8 a9)
    (fun i b4 b5 b6 b7 b8 => i ≤ 16 ∧ zs_Y a1 a2 b4 b5 b8 ∧ zs_M a4 a5 b4 b5 ∧ (∀ m, m < i → b4 (16 * s + m) = 2))
    (fun i _ _ _ _ _ => 16 - i) ?_ 0 a4 a5 a6 a7 a8 ⟨by omega, hY, zs_Mr _ _, fun m hm => absurd hm (by omega)⟩
  intro n i b4 b5 b6 b7 b8 hI hw
  obtain ⟨hi, bY, bM, bF⟩ := hI
  refine pk_le 16 i (fun z => ?_) (fun z => ?_)
  · have e : i = 16 := by omega
    subst e
    exact H 16 _ _ _ _ _ hi bY bM bF
  · refine zs_force (P := 16 * s + i) (by rw [zs_16, nI_add]) (by omega) g bY (fun r c4 c5 c6 c7 c8 cY cM cr => ?_)
    have cF : ∀ m, m < i → c4 (16 * s + m) = 2 := fun m hm => (cM _ (by omega) (bF m hm)).1
    rcases cr with ⟨er, e2⟩ | ⟨er, e2⟩
    · subst er
      refine br_f zs_i10 (nm_r (nI_1 i) (hw (i + 1) _ _ _ _ _ ⟨by omega, cY, zs_Mt bM cM, fun m hm => ?_⟩ (by omega)))
      by_cases em : m = i
      · rw [em]
        exact e2
      · exact cF m (by omega)
    · subst er
      exact br_t rfl (H i _ _ _ _ _ hi cY (zs_Mt bM cM) cF)
theorem zs_valued {post : Int32 → St1 → Prop} {s k : Nat} (hs : s < 8) (hk : k ≤ 16) (g : zs_G a1 a2 a3 a9) (hY : zs_Y a1 a2 a4 a5 a8) (hF : ∀ m, m < k → a4 (16 * s + m) = 2)
    (H : ∀ (v : Nat) (b4 b5 b6 b7 b8 : Nat → Int32), k ≤ v → v ≤ 16 → zs_Y a1 a2 b4 b5 b8 → zs_M a4 a5 b4 b5 → post (nI v) (a1, a2, a3, b4, b5, b6, b7, b8, a9)) :
    wpX_valued post (a1, a2, a3, a4, a5, a6, a7, a8, a9) (nI s) := by
  unfold wpX_valued
  dsimp only
  refine zs_ser hs (br_f zs_i10 ?_)
  refine lp7 (fun m v i b4 b5 b6 b7 b8 => wX_valued_13 post (nI s) m (nI v) (nI i) a1 a2 a3 b4 b5 b6 b7 b8 a9)
    (fun v i b4 b5 b6 b7 b8 => i ≤ 16 ∧ v ≤ i ∧ (i ≤ k → v = i) ∧ (k ≤ i → k ≤ v) ∧ zs_Y a1 a2 b4 b5 b8 ∧ zs_M a4 a5 b4 b5)
    (fun v i _ _ _ _ _ => 16 - i) ?_ 0 0 a4 a5 a6 a7 a8 ⟨by omega, by omega, fun _ => rfl, fun h => h, hY, zs_Mr _ _⟩
  intro n v i b4 b5 b6 b7 b8 hI hw
  obtain ⟨hi, hvi, h1, h2, bY, bM⟩ := hI
  refine pk_le 16 i (fun z => H v _ _ _ _ _ (h2 (by omega)) (by omega) bY bM) (fun z => ?_)
  refine zs_force (P := 16 * s + i) (by rw [zs_16, nI_add]) (by omega) g bY (fun r c4 c5 c6 c7 c8 cY cM cr => ?_)
  have cF : i < k → c4 (16 * s + i) = 2 := fun hik => (zs_Mt bM cM _ (by omega) (hF i hik)).1
  rcases cr with ⟨er, e2⟩ | ⟨er, e2⟩
  · subst er
    exact br_f zs_i10 (nm_r (nI_1 v) (nm_r (nI_1 i) (hw (v + 1) (i + 1) _ _ _ _ _ ⟨by omega, by omega, fun h => by have := h1 (by omega); omega, fun h => by omega, cY, zs_Mt bM cM⟩ (by omega))))
  · subst er
    have hik : ¬ i < k := fun h => e2 (cF h)
    exact br_t rfl (nm_r (nI_1 i) (hw v (i + 1) _ _ _ _ _ ⟨by omega, by omega, fun h => by omega, fun h => h2 (by omega), cY, zs_Mt bM cM⟩ (by omega)))
theorem zs_kindOf {post : Int32 → Prop} {s : Nat} (hs : s < 8) (H : post (a1 s)) : wpX_kindOf post (a1, a2, a3, a4, a5, a6, a7, a8, a9) (nI s) := by
  unfold wpX_kindOf
  dsimp only
  refine zs_ser hs (br_f zs_i10 ⟨pk_in s 8 hs, ?_⟩)
  rw [nI_clamp (by omega)]
  exact H
theorem zs_coef {post : Int32 → St1 → Prop} {x y : Int32} {s n : Nat} (hx : x = nI s) (hy : y = nI n) (hs : s < 8) (hn : n < 16) (hF : a4 (16 * s + n) = 2)
    (H : post (a5 (16 * s + n)) (a1, a2, a3, a4, a5, a6, a7, a8, a9)) : wpX_coefficient post (a1, a2, a3, a4, a5, a6, a7, a8, a9) x y := by
  subst hx hy
  have e : (16 : Int32) * nI s + nI n = nI (16 * s + n) := by rw [zs_16, nI_add]
  have c : (nI (16 * s + n)).toNatClampNeg = 16 * s + n := nI_clamp (by omega)
  unfold wpX_coefficient
  dsimp only
  rw [e]
  refine zs_ser hs (br_f zs_i10 (br_f (nI_pos (by omega)) (pk_lt n 16 (fun _ => ?_) (fun z => absurd z (by omega)))))
  unfold wpX_force
  dsimp only
  rw [c]
  refine ⟨pk_in (16 * s + n) 128 (by omega), br_f (by rw [hF]; exact zs_i20) ⟨pk_in (16 * s + n) 128 (by omega), br_t hF (br_f zs_i10 ⟨pk_in (16 * s + n) 128 (by omega), H⟩)⟩⟩
theorem zs_inverse {post : Int32 → St1 → Prop} {s A : Nat} (hs : s < 8) (hA : A < 8) (g : zs_G a1 a2 a3 a9) (hY : zs_Y a1 a2 a4 a5 a8) (h7 : a1 s = 7) (h2 : a2 s = nI A)
    (H : ∀ (b4 b5 b6 b7 b8 : Nat → Int32), zs_Y a1 a2 b4 b5 b8 → zs_M a4 a5 b4 b5 → post 1 (a1, a2, a3, b4, b5, b6, b7, b8, a9)) :
    wpL_inverse post (a1, a2, a3, a4, a5, a6, a7, a8, a9) (nI s) (nI A) := by
  unfold wpL_inverse
  dsimp only
  refine zs_known hs g hY (fun k b4 b5 b6 b7 b8 hk bY bM bF => ?_)
  have vA : zs_v a2 s = A := zs_vI h2 (by omega)
  refine pk_loop (σ := Unit) (fun m n _ => wL_inverse_9 post (nI s) (nI A) (nI k) m (nI n) a1 a2 a3 b4 b5 b6 b7 b8 a9) (fun n _ => True) k 0 () (by omega) trivial ?_ ?_
  · intro m _ _
    exact pk_le k k (fun _ => H _ _ _ _ _ bY bM) (fun z => absurd z (by omega))
  · intro m n _ hn _ hw
    obtain ⟨y5, y8, yF⟩ := bY
    have hd : (16 * s + n) / 16 = s := by omega
    have hm : (16 * s + n) % 16 = n := by omega
    have F := yF (16 * s + n) (by omega) (bF n hn) (by rw [hd]; exact h7)
    rw [hd, hm, vA] at F
    obtain ⟨f1, f2, f3⟩ := F
    refine pk_le k n (fun z => absurd z (by omega)) (fun _ => ?_)
    refine pk_loop (fun m i x => wL_inverse_21 post (wL_inverse_9 post (nI s) (nI A) (nI k) _) (nI s) (nI A) (nI k) (nI n) m x (nI i) a1 a2 a3 b4 b5 b6 b7 b8 a9) (fun i x => x = nI (zs_S (zs_f a2 b5 (16 * s + n)) i)) (n + 1) 0 (0 : Int32) (by omega) rfl ?_ ?_
    · intro m' x hx
      subst hx
      have hb : zs_S (zs_f a2 b5 (16 * s + n)) (n + 1) ≤ (n + 1) * 9216 := by
        refine zs_Sb _ (fun j hj => ?_)
        refine zs_m97 (zs_Rv y5 (by omega) ?_).2 (zs_Rv y5 (by omega) (by omega)).2
        rw [hd, vA]
        omega
      have hr := zs_rem _ rfl (show zs_S (zs_f a2 b5 (16 * s + n)) (n + 1) < 2 ^ 31 by omega)
      refine pk_lt n (n + 1) (fun _ => ⟨by decide, ?_⟩) (fun z => absurd z (by omega))
      rw [hr, f3]
      refine pk_eq n 0 (fun zn => ?_) (fun zn => ?_)
      · rw [if_pos zn]
        unfold wL_inverse_92
        exact br_t rfl (nm_r (nI_1 n) (hw () trivial))
      · rw [if_neg zn]
        unfold wL_inverse_92
        exact br_t rfl (nm_r (nI_1 n) (hw () trivial))
    · intro m' i x hi hx hw'
      subst hx
      have v1 := zs_Rv y5 (by omega) (show 16 * A + i < 128 by omega)
      have v2 := zs_Rv y5 (by omega) (show 16 * s + (n - i) < 128 by omega)
      have hF2 : b4 (16 * s + (n - i)) = 2 := bF (n - i) (by omega)
      refine pk_lt n i (fun z => absurd z (by omega)) (fun _ => ?_)
      refine zs_coef rfl rfl hA (by omega) (f1 i (by omega)) ?_
      refine zs_coef rfl (pk_sub (by omega)) hs (by omega) hF2 ?_
      rw [v1.1, v2.1]
      refine br_f (nI_pos (by omega)) (br_t (nI_pos' (by omega)) (nm_r (e' := nI (zs_S (zs_f a2 b5 (16 * s + n)) (i + 1))) ?_ (nm_r (nI_1 i) (hw' _ rfl))))
      rw [pk_mul, nI_add]
      refine congrArg nI ?_
      show _ = zs_S (zs_f a2 b5 (16 * s + n)) i + zs_v b5 (16 * zs_v a2 ((16 * s + n) / 16) + i) * zs_v b5 (16 * s + n - i)
      rw [hd, vA, show 16 * s + n - i = 16 * s + (n - i) by omega]
/-- the law keeps the first parts of the reciprocals in one int -/
def zs_P (a1 a2 : Nat → Int32) (x : Int32) : Prop := ∀ s, s < 8 → a1 s = 7 → (x >>> (nI (3 * s) &&& 31)) &&& 7 = a2 s
theorem zs_holds {post : Int32 → St1 → Prop} {x : Int32} (g : zs_G a1 a2 a3 a9) (hY : zs_Y a1 a2 a4 a5 a8) (hP : zs_P a1 a2 x)
    (H : ∀ (b4 b5 b6 b7 b8 : Nat → Int32), zs_Y a1 a2 b4 b5 b8 → post 1 (a1, a2, a3, b4, b5, b6, b7, b8, a9)) :
    wpL_holds post (a1, a2, a3, a4, a5, a6, a7, a8, a9) x := by
  unfold wpL_holds
  dsimp only
  refine lp6 (fun m s b4 b5 b6 b7 b8 => wL_holds_2 post x m (nI s) a1 a2 a3 b4 b5 b6 b7 b8 a9)
    (fun s b4 b5 b6 b7 b8 => s ≤ 8 ∧ zs_Y a1 a2 b4 b5 b8)
    (fun s _ _ _ _ _ => 8 - s) ?_ 0 a4 a5 a6 a7 a8 ⟨by omega, hY⟩
  intro n s b4 b5 b6 b7 b8 hI hw
  obtain ⟨hs8, bY⟩ := hI
  refine pk_le 8 s (fun _ => H _ _ _ _ _ bY) (fun hs => ?_)
  refine zs_known hs g bY (fun k c4 c5 c6 c7 c8 hk cY cM cF => ?_)
  refine zs_valued hs hk g cY cF (fun v d4 d5 d6 d7 d8 hkv hv dY dM => ?_)
  refine br_f (nI_pos (by omega)) (pk_lt v k (fun z => absurd z (by omega)) (fun _ => ?_))
  refine pk_le v 16 (fun _ => ?_) (fun z => absurd z (by omega))
  refine nm_r (e' := (x >>> (nI (3 * s) &&& 31)) &&& 7) (by rw [zs_3]) ?_
  refine zs_kindOf hs (br_c (fun h7 => ?_) (fun _ => nm_r (nI_1 s) (hw (s + 1) _ _ _ _ _ ⟨by omega, dY⟩ (by omega))))
  have v2 := zs_Rv g.2.1 (by omega) hs
  refine br_c (fun _ => nm_r (nI_1 s) (hw (s + 1) _ _ _ _ _ ⟨by omega, dY⟩ (by omega))) (fun _ => ?_)
  rw [hP s hs h7, v2.1]
  exact zs_inverse hs v2.2 g dY h7 v2.1 (fun e4 e5 e6 e7 e8 eY eM => br_f zs_i10 (nm_r (nI_1 s) (hw (s + 1) _ _ _ _ _ ⟨by omega, eY⟩ (by omega))))
end
end
section
/-! bits (a family of BITS.to-paste, renamed), define, the constructor -/
def zb_t (x : Int32) (i : Nat) : Bool := x.toBitVec.getLsbD i
theorem zb_ext {x y : Int32} (h : ∀ i, i < 32 → zb_t x i = zb_t y i) : x = y := Int32.toBitVec_inj.mp (BitVec.eq_of_getLsbD_eq (fun i hi => h i hi))
theorem zb_or (x y : Int32) (i : Nat) : zb_t (x ||| y) i = (zb_t x i || zb_t y i) := by unfold zb_t; rw [Int32.toBitVec_or, BitVec.getLsbD_or]
theorem zb_and (x y : Int32) (i : Nat) : zb_t (x &&& y) i = (zb_t x i && zb_t y i) := by unfold zb_t; rw [Int32.toBitVec_and, BitVec.getLsbD_and]
theorem zb_xor (x y : Int32) (i : Nat) : zb_t (x ^^^ y) i = (zb_t x i ^^ zb_t y i) := by unfold zb_t; rw [Int32.toBitVec_xor, BitVec.getLsbD_xor]
theorem zb_m1 : ∀ i, i < 32 → zb_t (-1) i = true := by decide +kernel
theorem zb_7 : ∀ i, i < 32 → zb_t 7 i = decide (i < 3) := by decide +kernel
theorem zb_A : ∀ A, A < 8 → ∀ i, i < 32 → 3 ≤ i → zb_t (nI A) i = false := by decide +kernel
theorem zb_sl : ∀ n, n < 32 → ((nI n &&& 31).toBitVec.smod 32).toNat = n := by decide +kernel
theorem zb_shl (n : Nat) (hn : n < 32) (x : Int32) {i : Nat} (hi : i < 32) : zb_t (x <<< (nI n &&& 31)) i = (decide (n ≤ i) && zb_t x (i - n)) := by
  unfold zb_t
  rw [Int32.toBitVec_shiftLeft]
  show (x.toBitVec <<< ((nI n &&& 31).toBitVec.smod 32).toNat).getLsbD i = _
  rw [zb_sl n hn, BitVec.getLsbD_shiftLeft]
  rcases Nat.lt_or_ge i n with h | h
  · simp [h, Nat.not_le.mpr h]
  · simp [hi, h, Nat.not_lt.mpr h]
theorem zb_sshr (n : Nat) (hn : n < 32) (x : Int32) {i : Nat} (hi : i < 32) : zb_t (x >>> (nI n &&& 31)) i = if n + i < 32 then zb_t x (n + i) else zb_t x 31 := by
  unfold zb_t
  rw [Int32.toBitVec_shiftRight]
  show (x.toBitVec.sshiftRight ((nI n &&& 31).toBitVec.smod 32).toNat).getLsbD i = _
  rw [zb_sl n hn, BitVec.getLsbD_sshiftRight, BitVec.msb_eq_getLsbD_last]
  simp [hi]
/-- three bits are written: what stands in each place of three bits after that -/
theorem zs_set (x : Int32) {s t A : Nat} (hs : s < 8) (ht : t < 8) (hA : A < 8) :
    (((x &&& (((7 : Int32) <<< (nI (3 * s) &&& 31)) ^^^ (-1))) ||| (nI A <<< (nI (3 * s) &&& 31))) >>> (nI (3 * t) &&& 31)) &&& 7 = if t = s then nI A else (x >>> (nI (3 * t) &&& 31)) &&& 7 := by
  apply zb_ext
  intro i hi
  rcases Nat.lt_or_ge i 3 with h3 | h3
  · have e1 : zb_t ((((x &&& (((7 : Int32) <<< (nI (3 * s) &&& 31)) ^^^ (-1))) ||| (nI A <<< (nI (3 * s) &&& 31))) >>> (nI (3 * t) &&& 31)) &&& 7) i = ((zb_t x (3 * t + i) && !(decide (3 * s ≤ 3 * t + i) && zb_t 7 (3 * t + i - 3 * s))) || (decide (3 * s ≤ 3 * t + i) && zb_t (nI A) (3 * t + i - 3 * s))) := by
      rw [zb_and, zb_sshr _ (by omega) _ hi, if_pos (by omega), zb_7 i hi, decide_eq_true h3, Bool.and_true, zb_or, zb_and, zb_xor, zb_shl _ (by omega) _ (by omega), zb_shl _ (by omega) _ (by omega), zb_m1 _ (by omega), Bool.xor_true]
    have e2 : zb_t ((x >>> (nI (3 * t) &&& 31)) &&& 7) i = zb_t x (3 * t + i) := by
      rw [zb_and, zb_sshr _ (by omega) _ hi, if_pos (by omega), zb_7 i hi, decide_eq_true h3, Bool.and_true]
    rw [e1]
    by_cases e : t = s
    · rw [if_pos e, e, show 3 * s + i - 3 * s = i by omega, zb_7 i hi, decide_eq_true h3, decide_eq_true (show 3 * s ≤ 3 * s + i by omega)]
      simp
    · rw [if_neg e, e2]
      rcases Nat.lt_or_ge t s with h | h
      · rw [decide_eq_false (show ¬ 3 * s ≤ 3 * t + i by omega)]
        simp
      · rw [zb_7 _ (by omega), decide_eq_false (show ¬ 3 * t + i - 3 * s < 3 by omega), zb_A A hA _ (by omega) (by omega)]
        simp
  · rw [zb_and, zb_7 i hi, decide_eq_false (show ¬ i < 3 by omega), Bool.and_false]
    by_cases e : t = s
    · rw [if_pos e, zb_A A hA i hi h3]
    · rw [if_neg e, zb_and, zb_7 i hi, decide_eq_false (show ¬ i < 3 by omega), Bool.and_false]
section
variable {a1 a2 a3 a4 a5 a6 a7 a8 a9 : Nat → Int32}
theorem zs_reduced {post : Int32 → Prop} (x : Int32) (H : ∀ b, b < 97 → post (nI b)) : wpX_reduced post () x := by
  have h97 : (97 : Int32).toInt = 97 := by decide
  have hr := rem_toInt x 97
  rw [h97] at hr
  obtain ⟨l1, l2⟩ := tmod_bounds (a := x.toInt) (show (0 : Int) < 97 by decide)
  unfold wpX_reduced
  refine ⟨by decide, nm_e ?_⟩
  generalize x - x / 97 * 97 = r at *
  have key : ∀ z : Int32, 0 ≤ z.toInt → z.toInt < 97 → post z := by
    intro z z0 z1
    have hz : ¬ z < 0 := by
      intro h
      have := Int32.lt_iff_toInt_lt.mp h
      have e0 : (0 : Int32).toInt = 0 := by decide
      omega
    obtain ⟨j, hj, ej⟩ := nI_of hz
    have := nI_toInt hj
    rw [← ej] at this
    rw [ej]
    exact H j (by omega)
  have e0 : (0 : Int32).toInt = 0 := by decide
  refine br_c (fun h => ?_) (fun h => ?_)
  · have := Int32.le_iff_toInt_le.mp h
    exact key r (by omega) (by omega)
  · have h' : ¬ (0 : Int32).toInt ≤ r.toInt := fun z => h (Int32.le_iff_toInt_le.mpr z)
    have e : (r + 97).toInt = r.toInt + 97 := by
      rw [Int32.toInt_add, h97]
      exact Int.bmod_eq_of_le (by omega) (by omega)
    exact key (r + 97) (by omega) (by omega)
theorem zs_d131 {post : Int32 → St1 → Prop} {x6 : Int32} (H : ∀ s, (∀ p, p < 128 → s p = 0) → post x6 (a1, a2, a3, s, a5, a6, a7, a8, a9)) : ∃ fu, wX_define_131 post x6 fu 0 a1 a2 a3 a4 a5 a6 a7 a8 a9 := by
  refine pk_loop (fun m i s => wX_define_131 post x6 m (nI i) a1 a2 a3 s a5 a6 a7 a8 a9) (fun i s => ∀ p, p < i → s p = 0) 128 0 a4 (by omega) (fun p hp => absurd hp (by omega)) ?_ ?_
  · intro m s h
    exact pk_le 128 128 (fun _ => H s h) (fun z => absurd z (by omega))
  · intro m i s hi h hw
    refine pk_le 128 i (fun z => absurd z (by omega)) (fun _ => ⟨pk_in i 128 hi, nm_r (e' := upd s i 0) (by rw [nI_clamp (by omega)]) (nm_r (nI_1 i) (hw _ (fun p hp => ?_)))⟩)
    by_cases e : p = i
    · rw [e, pk_us]
    · rw [pk_un e]
      exact h p (by omega)
theorem zs_d106 {post : Int32 → St1 → Prop} {s z : Nat} {y x5 x6 : Int32} (hs : s < 8) (hy : ¬ x5 = 0 → ∃ b, b < 8 ∧ y = nI b)
    (H : ∀ b b4, b < 97 → (¬ x5 = 0 → b < 8) → (∀ p, p < 128 → b4 p = 0) → post x6 (a1, upd a2 s (nI z), upd a3 s (nI b), b4, a5, a6, a7, a8, a9)) :
    wX_define_106 post (nI s) y x5 x6 (nI z) (nI s) a1 a2 a3 a4 a5 a6 a7 a8 a9 := by
  have cs : (nI s).toNatClampNeg = s := nI_clamp (by omega)
  unfold wX_define_106
  rw [cs]
  refine ⟨pk_in s 8 hs, nm_e (br_c (fun h => ?_) (fun h => ?_))⟩
  · exact zs_reduced y (fun b hb => ⟨pk_in s 8 hs, nm_e (zs_d131 (fun b4 h4 => H b b4 hb (fun h' => absurd h h') h4))⟩)
  · obtain ⟨b, hb, eb⟩ := hy h
    subst eb
    exact ⟨pk_in s 8 hs, nm_e (zs_d131 (fun b4 h4 => H b b4 (by omega) (fun _ => hb) h4))⟩
theorem zs_Gu {s kd z b : Nat} (hs : s < 8) (hkd : kd < 10) (hz : z < 8) (hb : b < 97) (hb8 : kd = 2 ∨ kd = 3 ∨ kd = 9 → b < 8) (g : zs_G a1 a2 a3 a9) : zs_G (upd a1 s (nI kd)) (upd a2 s (nI z)) (upd a3 s (nI b)) a9 := by
  obtain ⟨g1, g2, g3, g4, g9⟩ := g
  refine ⟨zs_Ru g1 hkd, zs_Ru g2 hz, zs_Ru g3 hb, fun t ht h => ?_, g9⟩
  by_cases e : t = s
  · rw [e, zs_vs (by omega)]
    rw [e, pk_us] at h
    refine hb8 ?_
    rcases h with h | h | h
    · exact Or.inl ((nI_eq (b := 2) (by omega) (by decide)).mp h)
    · exact Or.inr (Or.inl ((nI_eq (b := 3) (by omega) (by decide)).mp h))
    · exact Or.inr (Or.inr ((nI_eq (b := 9) (by omega) (by decide)).mp h))
  · rw [zs_vu e]
    rw [pk_un e] at h
    exact g4 t ht h
theorem zs_define {post : Int32 → St1 → Prop} {s kd A : Nat} {y : Int32} (hs : s < 8) (hkd : kd < 10) (hA : A < 8) (hy : kd = 2 ∨ kd = 3 ∨ kd = 9 → ∃ b, b < 8 ∧ y = nI b) (g : zs_G a1 a2 a3 a9)
    (H : ∀ (k0 : Nat) (z : Nat) (b3 b4 : Nat → Int32), k0 < 10 → zs_G (upd a1 s (nI kd)) (upd a2 s (nI z)) b3 a9 → (∀ p, p < 128 → b4 p = 0) → (kd = 7 → z = A) → post (nI k0) (upd a1 s (nI kd), upd a2 s (nI z), b3, b4, a5, a6, a7, a8, a9)) :
    wpX_define post (a1, a2, a3, a4, a5, a6, a7, a8, a9) (nI s) (nI kd) (nI A) y := by
  have cs : (nI s).toNatClampNeg = s := nI_clamp (by omega)
  have v1 := zs_Rv g.1 (by omega) hs
  have d76 : ∀ x5 : Int32, (¬ x5 = 0 → ∃ b, b < 8 ∧ y = nI b) → (kd = 2 ∨ kd = 3 ∨ kd = 9 → ¬ x5 = 0) → wX_define_76 post (nI s) (nI kd) (nI A) y x5 a1 a2 a3 a4 a5 a6 a7 a8 a9 := by
    intro x5 h5 h5'
    unfold wX_define_76
    rw [cs]
    refine ⟨pk_in s 8 hs, nm_r v1.1 ⟨pk_in s 8 hs, nm_e (pk_le kd 1 (fun hk => ?_) (fun hk => ?_))⟩⟩
    · exact zs_d106 (z := 0) hs h5 (fun b b4 hb hb8 h4 => H _ 0 _ b4 v1.2 (zs_Gu hs hkd (by omega) hb (fun e => hb8 (h5' e)) g) h4 (fun e => absurd e (by omega)))
    · exact zs_d106 (z := A) hs h5 (fun b b4 hb hb8 h4 => H _ A _ b4 v1.2 (zs_Gu hs hkd hA hb (fun e => hb8 (h5' e)) g) h4 (fun _ => rfl))
  have d58t : (∃ b, b < 8 ∧ y = nI b) → wX_define_58 post (nI s) (nI kd) (nI A) y 1 a1 a2 a3 a4 a5 a6 a7 a8 a9 := by
    intro h
    obtain ⟨b, hb, eb⟩ := h
    unfold wX_define_58
    have h76 := d76 1 (fun _ => ⟨b, hb, eb⟩) (fun _ => zs_i10)
    subst eb
    exact br_f zs_i10 (zs_ser hb (br_f zs_i10 h76))
  have d37 : wX_define_37 post (nI s) (nI kd) (nI A) y a1 a2 a3 a4 a5 a6 a7 a8 a9 := by
    unfold wX_define_37
    refine pk_eq kd 2 (fun e => d58t (hy (by omega))) (fun e2 => ?_)
    refine pk_eq kd 3 (fun e => d58t (hy (by omega))) (fun e3 => ?_)
    refine pk_eq kd 9 (fun e => d58t (hy (by omega))) (fun e9 => ?_)
    unfold wX_define_58
    exact br_t rfl (d76 0 (fun h => absurd rfl h) (fun e => by omega))
  unfold wpX_define
  dsimp only
  refine zs_ser hs (br_f zs_i10 (br_f (nI_pos (by omega)) (pk_le kd 9 (fun _ => ?_) (fun z => absurd z (by omega)))))
  exact pk_le kd 1 (fun _ => d37) (fun _ => zs_ser hA (br_f zs_i10 d37))
theorem zs_z0 {N B : Nat} (hB : 0 < B) : zs_R (fun _ => 0) N B := fun i _ => ⟨0, hB, rfl⟩
theorem zs_init {post : St1 → Prop} (H : ∀ s, zs_V s → post ((fun _ => 0), (fun _ => 0), (fun _ => 0), (fun _ => 0), (fun _ => 0), (fun _ => 0), (fun _ => 0), (fun _ => 0), s)) : wpX_init post 9 649 () := by
  unfold wpX_init
  refine ⟨by decide, by decide, by decide, by decide, by decide, by decide, by decide, by decide, by decide, by decide, by decide, by decide, by decide, by decide, by decide, by decide, by decide, by decide, nm_e ?_⟩
  refine pk_loop (fun m i s => wX_init_89 post 9 649 9 649 m (nI i) (fun _ => 0) (fun _ => 0) (fun _ => 0) (fun _ => 0) (fun _ => 0) (fun _ => 0) (fun _ => 0) (fun _ => 0) s)
    (fun i s => 2 ≤ i ∧ ∀ y, y < 97 → ∃ v, v < 97 ∧ s y = nI v ∧ (0 < y → y < i → y * v % 97 = 1)) 97 2 (upd (fun _ => 0) 1 1) (by omega) ?_ ?_ ?_
  · refine ⟨by omega, fun y hy => ?_⟩
    by_cases e : y = 1
    · exact ⟨1, by omega, by rw [e, pk_us]; rfl, fun _ _ => by rw [e]⟩
    · exact ⟨0, by omega, by rw [pk_un e]; rfl, fun h h' => absurd h' (by omega)⟩
  · intro m s h
    refine pk_le 97 97 (fun _ => H s (fun y hy => ?_)) (fun z => absurd z (by omega))
    obtain ⟨v, hv, ev, e1⟩ := h.2 y hy
    exact ⟨v, hv, ev, fun h0 => e1 h0 hy⟩
  · intro m i s hi hI hw
    obtain ⟨h2, h⟩ := hI
    · have hm0 := zs_p97 i hi h2
      have hmi : 97 % i < i := Nat.mod_lt _ (by omega)
      obtain ⟨v, hv, ev, e1⟩ := h (97 % i) (by omega)
      have hv1 := e1 hm0 hmi
      have qr : (97 : Int32) - 97 / nI i * nI i = nI (97 % i) := pk_rem (a := 97) (by decide) (by omega) (by omega)
      have qd : (97 : Int32) / nI i = nI (97 / i) := pk_div (a := 97) (by decide) (by omega) (by omega)
      have hd : 97 / i ≤ 97 := Nat.div_le_self _ _
      have n0 : ¬ nI i = 0 := nI_ne0 (by omega) (by omega)
      have cr : (nI (97 % i)).toNatClampNeg = 97 % i := nI_clamp (by omega)
      have hb : (97 - 97 / i) * v < 2 ^ 31 := Nat.lt_of_le_of_lt (Nat.mul_le_mul (Nat.sub_le 97 (97 / i)) (show v ≤ 97 by omega)) (by decide)
      refine pk_le 97 i (fun z => absurd z (by omega)) (fun _ => ⟨n0, n0, pk_in (97 % i) 97 (by omega) qr, by decide, pk_in i 97 hi, nm_r (e' := upd s i (nI ((97 - 97 / i) * v % 97))) ?_ (nm_r (nI_1 i) (hw _ ⟨by omega, fun y hy => ?_⟩))⟩)
      · rw [qr, cr, qd, ev, nI_clamp (by omega)]
        exact congrArg (upd s i) (zs_rem _ (by rw [show (97 : Int32) - nI (97 / i) = nI (97 - 97 / i) from pk_sub hd, pk_mul]) hb)
      · by_cases e : y = i
        · rw [e, pk_us]
          exact ⟨_, Nat.mod_lt _ (by decide), rfl, fun _ _ => zs_inv h2 hv1⟩
        · rw [pk_un e]
          obtain ⟨v', hv', ev', e1'⟩ := h y hy
          exact ⟨v', hv', ev', fun h0 hy' => e1' h0 (by omega)⟩
end
end
section
/-! the law -/
section
variable {a1 a2 a3 a4 a5 a6 a7 a8 a9 : Nat → Int32}
theorem zs_cell {post : Int32 → Prop} {L k : Nat} {xs : Nat → Int32} {x : Int32} (hx : x = nI k) (hL : L ≤ 260) (hk : k ≤ 300) (H : ∀ c, post c) : wpL_cell post L xs () x := by
  subst hx
  unfold wpL_cell
  exact pk_le L k (fun _ => H _) (fun z => ⟨pk_in k L z, H _⟩)
theorem zs_F0 {a1 a2 a4 a5 : Nat → Int32} (h : ∀ p, p < 128 → a4 p = 0) : zs_F a1 a2 a4 a5 := by
  intro q hq h2
  rw [h q hq] at h2
  exact absurd h2 zs_i02
theorem zs_Pu {x : Int32} {s kd A z : Nat} (hs : s < 8) (hkd : kd < 10) (hA : A < 8) (hz : kd = 7 → z = A) (h : zs_P a1 a2 x) :
    zs_P (upd a1 s (nI kd)) (upd a2 s (nI z)) ((x &&& (((7 : Int32) <<< (nI (3 * s) &&& 31)) ^^^ (-1))) ||| (nI A <<< (nI (3 * s) &&& 31))) := by
  intro t ht h7
  rw [zs_set x hs ht hA]
  by_cases e : t = s
  · rw [if_pos e, e, pk_us]
    rw [e, pk_us] at h7
    rw [hz ((nI_eq (b := 7) (by omega) (by decide)).mp h7)]
  · rw [if_neg e, pk_un e]
    rw [pk_un e] at h7
    exact h t ht h7
theorem zs_l127 {post : Int32 → Prop} {L : Nat} {xs : Nat → Int32} {J : Int32 → Int32 → (Nat → Int32) → (Nat → Int32) → (Nat → Int32) → (Nat → Int32) → (Nat → Int32) → (Nat → Int32) → (Nat → Int32) → (Nat → Int32) → (Nat → Int32) → Prop}
    {x2 x4 y : Int32} {k s kd A kc ks : Nat} (hs : s < 8) (hkd : kd < 10) (hA : A < 8) (hy : kd = 2 ∨ kd = 3 ∨ kd = 9 → ∃ b, b < 8 ∧ y = nI b)
    (g : zs_G a1 a2 a3 a9) (hY : zs_Y a1 a2 a4 a5 a8) (hP : zs_P a1 a2 x2)
    (H : ∀ (x : Int32) (b1 b2 b3 b4 b5 b6 b7 b8 : Nat → Int32), zs_G b1 b2 b3 a9 → zs_Y b1 b2 b4 b5 b8 → zs_P b1 b2 x → J x (nI (k + 2)) b1 b2 b3 b4 b5 b6 b7 b8 a9) :
    wL_law_127 post L xs J x2 (nI k) x4 (nI s) (nI kd) (nI A) y kc ks a1 a2 a3 a4 a5 a6 a7 a8 a9 := by
  have e2 : nI k + 2 = nI (k + 2) := nI_add k 2
  unfold wL_law_127
  rw [zs_3, e2]
  refine zs_define hs hkd hA hy g (fun k0 z b3 b4 hk0 g' h4 hz => ?_)
  have P' := zs_Pu hs hkd hA hz hP
  have Y' : zs_Y (upd a1 s (nI kd)) (upd a2 s (nI z)) b4 a5 a8 := ⟨hY.1, hY.2.1, zs_F0 h4⟩
  refine br_t (nI_pos' (by omega)) (nm_e (br_c (fun _ => ?_) (fun _ => nm_e (H _ _ _ _ _ _ _ _ _ g' Y' P'))))
  exact zs_holds g' Y' P' (fun c4 c5 c6 c7 c8 cY => br_f zs_i10 (nm_e (H _ _ _ _ _ _ _ _ _ g' cY P')))
theorem zs_l80 {post : Int32 → Prop} {L : Nat} {xs : Nat → Int32} {J : Int32 → Int32 → (Nat → Int32) → (Nat → Int32) → (Nat → Int32) → (Nat → Int32) → (Nat → Int32) → (Nat → Int32) → (Nat → Int32) → (Nat → Int32) → (Nat → Int32) → Prop}
    {x2 x4 x5 : Int32} {k s kd kc ks : Nat} (hs : s < 8) (hkd : kd < 10)
    (g : zs_G a1 a2 a3 a9) (hY : zs_Y a1 a2 a4 a5 a8) (hP : zs_P a1 a2 x2)
    (H : ∀ (x : Int32) (b1 b2 b3 b4 b5 b6 b7 b8 : Nat → Int32), zs_G b1 b2 b3 a9 → zs_Y b1 b2 b4 b5 b8 → zs_P b1 b2 x → J x (nI (k + 2)) b1 b2 b3 b4 b5 b6 b7 b8 a9) :
    wL_law_80 post L xs J x2 (nI k) x4 x5 (nI s) (nI kd) kc ks a1 a2 a3 a4 a5 a6 a7 a8 a9 := by
  obtain ⟨A, hA, eA⟩ := pk_andE x5 (m := 7) 3 (by decide)
  obtain ⟨b, hb, eb⟩ := pk_andE (x5 >>> ((3 : Int32) &&& 31)) (m := 7) 3 (by decide)
  have h121 : kd = 0 ∨ kd = 4 ∨ kd = 6 ∨ kd = 8 → wL_law_121 post L xs J x2 (nI k) x4 x5 (nI s) (nI kd) (nI A) kc ks a1 a2 a3 a4 a5 a6 a7 a8 a9 := by
    intro h
    unfold wL_law_121
    exact nm_e (zs_l127 hs hkd hA (fun e => by omega) g hY hP H)
  unfold wL_law_80
  refine nm_r eA (nm_r eb ?_)
  refine pk_eq kd 0 (fun e => h121 (by omega)) (fun _ => ?_)
  refine pk_eq kd 4 (fun e => h121 (by omega)) (fun _ => ?_)
  refine pk_eq kd 6 (fun e => h121 (by omega)) (fun _ => ?_)
  refine pk_eq kd 8 (fun e => h121 (by omega)) (fun _ => ?_)
  exact zs_l127 hs hkd hA (fun _ => ⟨b, hb, rfl⟩) g hY hP H
theorem zs_l12 {L : Nat} {xs : Nat → Int32} {kc ks : Nat} {x : Int32} (hL : L ≤ 260) (g : zs_G a1 a2 a3 a9) (hY : zs_Y a1 a2 a4 a5 a8) (hP : zs_P a1 a2 x) :
    ∃ n, wL_law_12 (fun r => r = 1) L xs kc ks n x 0 a1 a2 a3 a4 a5 a6 a7 a8 a9 := by
  refine lp10 (fun n x k b1 b2 b3 b4 b5 b6 b7 b8 => wL_law_12 (fun r => r = 1) L xs kc ks n x (nI k) b1 b2 b3 b4 b5 b6 b7 b8 a9)
    (fun x k b1 b2 b3 b4 b5 b6 b7 b8 => k ≤ 270 ∧ zs_G b1 b2 b3 a9 ∧ zs_Y b1 b2 b4 b5 b8 ∧ zs_P b1 b2 x)
    (fun x k _ _ _ _ _ _ _ _ => L - k) ?_ x 0 a1 a2 a3 a4 a5 a6 a7 a8 ⟨by omega, g, hY, hP⟩
  clear g hY hP
  intro n x k b1 b2 b3 b4 b5 b6 b7 b8 hI hw
  obtain ⟨hk, g, hY, hP⟩ := hI
  refine pk_le L k (fun _ => ?_) (fun hkL => ?_)
  · exact zs_holds g hY hP (fun c4 c5 c6 c7 c8 cY => rfl)
  · have J : ∀ (x : Int32) (c1 c2 c3 c4 c5 c6 c7 c8 : Nat → Int32), zs_G c1 c2 c3 a9 → zs_Y c1 c2 c4 c5 c8 → zs_P c1 c2 x → wL_law_12 (fun r => r = 1) L xs kc ks n x (nI (k + 2)) c1 c2 c3 c4 c5 c6 c7 c8 a9 :=
      fun x c1 c2 c3 c4 c5 c6 c7 c8 cg cY cP => hw x (k + 2) c1 c2 c3 c4 c5 c6 c7 c8 ⟨by omega, cg, cY, cP⟩ (by omega)
    refine zs_cell rfl hL (by omega) (fun c => ?_)
    refine zs_cell (nI_1 k) hL (by omega) (fun d => ?_)
    obtain ⟨s, hs, es⟩ := pk_andE c (m := 7) 3 (by decide)
    obtain ⟨j, hj, ej⟩ := pk_andE (c >>> ((3 : Int32) &&& 31)) (m := 15) 4 (by decide)
    have er : ((c >>> ((3 : Int32) &&& 31)) &&& 15) - ((c >>> ((3 : Int32) &&& 31)) &&& 15) / 10 * 10 = nI (j % 10) := by
      rw [ej]
      exact pk_rem (by omega) (by decide) (by decide)
    refine nm_r es ⟨by decide, nm_r er ?_⟩
    refine br_c (fun _ => br_c (fun _ => ?_) (fun _ => ?_)) (fun _ => ?_)
    · exact zs_l80 (kd := 7) hs (by omega) g hY hP J
    · exact zs_l80 (kd := 0) hs (by omega) g hY hP J
    · exact zs_l80 hs (by omega) g hY hP J
end
theorem i_vc (xs : Nat → Int32) (L : Nat) (hL : L ≤ 260) : wpL_law (fun r => r = 1) L xs := by
  unfold wpL_law
  refine ⟨9, 649, by decide, by decide, zs_init (fun s hs => ?_)⟩
  refine zs_l12 hL ⟨zs_z0 (by decide), zs_z0 (by decide), zs_z0 (by decide), fun t _ _ => ?_, hs⟩ ⟨zs_z0 (by decide), zs_z0 (by decide), zs_F0 (fun _ _ => rfl)⟩ (fun t _ h7 => ?_)
  · show (0 : Int32).toNatClampNeg < 8
    decide
  · exact absurd h7 (by decide)
end
