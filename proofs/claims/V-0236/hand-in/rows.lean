section
theorem pk_us {f : Nat → Int32} {k : Nat} {x : Int32} : upd f k x k = x := if_pos rfl
theorem pk_un {f : Nat → Int32} {k j : Nat} {x : Int32} (h : j ≠ k) : upd f k x j = f j := if_neg h
theorem pk_sub {a b : Nat} (h : b ≤ a) : nI a - nI b = nI (a - b) := by
  obtain ⟨c, rfl⟩ : ∃ c, a = c + b := ⟨a - b, by omega⟩
  rw [← nI_add, Int32.add_sub_cancel, Nat.add_sub_cancel]
theorem pk_m1 (n : Nat) : nI (n + 1) + (-1) = nI n := by
  rw [← nI_1, Int32.add_assoc, show (1 : Int32) + (-1) = 0 from rfl, Int32.add_zero]
theorem pk_mul (a b : Nat) : nI a * nI b = nI (a * b) := (Int32.ofNat_mul a b).symm
theorem pk_div {a d : Nat} (ha : a < 2 ^ 31) (h0 : 0 < d) (hd : d < 2 ^ 31) : nI a / nI d = nI (a / d) := by
  apply Int32.toInt_inj.mp
  rw [lg_idiv_nonneg (by rw [nI_toInt ha]; omega) (by rw [nI_toInt hd]; omega), nI_toInt ha, nI_toInt hd, nI_toInt (Nat.lt_of_le_of_lt (Nat.div_le_self a d) ha)]
  first | rfl | exact (Int.natCast_ediv _ _).symm
theorem pk_rem {a d : Nat} (ha : a < 2 ^ 31) (h0 : 0 < d) (hd : d < 2 ^ 31) : nI a - nI a / nI d * nI d = nI (a % d) := by
  rw [pk_div ha h0 hd, pk_mul, pk_sub (Nat.div_mul_le_self a d)]
  exact congrArg nI (by have := Nat.div_add_mod' a d; omega)
theorem pk_sub_toInt {a b : Nat} (ha : a < 2 ^ 30) (hb : b < 2 ^ 30) : (nI a - nI b).toInt = (a : Int) - b := by
  rw [Int32.toInt_sub, nI_toInt (by omega), nI_toInt (by omega)]
  exact Int.bmod_eq_of_le (by omega) (by omega)
theorem pk_sneg {a b : Nat} (hb : b < 2 ^ 30) (h : a < b) : nI a - nI b < 0 := by
  rw [Int32.lt_iff_toInt_lt, pk_sub_toInt (by omega) hb, show (0 : Int32).toInt = 0 from by decide]
  omega
theorem pk_ix (x : Int32) {n : Nat} (hn : n < 2 ^ 31) : x < 0 ∨ nI n ≤ x ∨ ∃ j : Nat, j < n ∧ x = nI j := by
  by_cases h : x < 0
  · exact Or.inl h
  · obtain ⟨j, hj, rfl⟩ := nI_of h
    by_cases h2 : j < n
    · exact Or.inr (Or.inr ⟨j, h2, rfl⟩)
    · exact Or.inr (Or.inl (nI_le (by omega) hj))
theorem pk_le {x y : Int32} {A B : Prop} (a b : Nat) (f : a ≤ b → A) (g : b < a → B) (hx : x = nI a := by rfl) (hy : y = nI b := by rfl) (ha : a < 2 ^ 31 := by omega) (hb : b < 2 ^ 31 := by omega) : (x ≤ y → A) ∧ (¬ x ≤ y → B) := by
  subst hx hy
  rw [nI_leI ha hb]
  exact ⟨f, fun z => g (by omega)⟩
theorem pk_lt {x y : Int32} {A B : Prop} (a b : Nat) (f : a < b → A) (g : b ≤ a → B) (hx : x = nI a := by rfl) (hy : y = nI b := by rfl) (ha : a < 2 ^ 31 := by omega) (hb : b < 2 ^ 31 := by omega) : (x < y → A) ∧ (¬ x < y → B) := by
  subst hx hy
  rw [nI_ltI ha hb]
  exact ⟨f, fun z => g (by omega)⟩
theorem pk_eq {x y : Int32} {A B : Prop} (a b : Nat) (f : a = b → A) (g : a ≠ b → B) (hx : x = nI a := by rfl) (hy : y = nI b := by rfl) (ha : a < 2 ^ 31 := by omega) (hb : b < 2 ^ 31 := by omega) : (x = y → A) ∧ (¬ x = y → B) := by
  subst hx hy
  rw [nI_eq ha hb]
  exact ⟨f, g⟩
theorem pk_in {x : Int32} (n N : Nat) (h : n < N) (hx : x = nI n := by rfl) (hN : N < 2 ^ 31 := by omega) : vp_in x N := by
  subst hx
  exact vp_in_nI h hN
theorem pk_cl {x : Int32} (n : Nat) (hx : x = nI n := by rfl) (h : n < 2 ^ 31 := by omega) : x.toNatClampNeg = n := by
  subst hx
  exact nI_clamp h
end
section
/-! plain arithmetic: ints as 32-bit ints, residues, the prime's inverses, the price table -/
def zI (x : Int) : Int32 := Int32.ofInt x
theorem zI_n (n : Nat) : zI (n : Int) = nI n := Int32.ofInt_eq_ofNat
theorem zI_add (a b : Int) : zI a + zI b = zI (a + b) := (Int32.ofInt_add a b).symm
theorem zI_sub (a b : Int) : zI a - zI b = zI (a - b) := (Int32.ofInt_sub a b).symm
theorem zI_mul (a b : Int) : zI a * zI b = zI (a * b) := (Int32.ofInt_mul a b).symm
theorem zI_neg (a : Int) : - zI a = zI (-a) := (Int32.ofInt_neg a).symm
theorem zI_t {x : Int} (h1 : -2147483648 ≤ x) (h2 : x < 2147483648) : (zI x).toInt = x := Int32.toInt_ofInt_of_le h1 h2
theorem zI_of (x : Int32) : zI x.toInt = x := Int32.ofInt_toInt x
theorem zI_0 : zI 0 = 0 := rfl
theorem zI_1 : zI 1 = 1 := rfl
theorem zI_N {x : Int} (h : 0 ≤ x) : zI x = nI x.toNat := by
  rw [← zI_n, Int.toNat_of_nonneg h]
theorem zI_le {a b : Int} (h1 : -2147483648 ≤ a) (h2 : a < 2147483648) (h3 : -2147483648 ≤ b) (h4 : b < 2147483648) : zI a ≤ zI b ↔ a ≤ b := by
  rw [Int32.le_iff_toInt_le, zI_t h1 h2, zI_t h3 h4]
theorem zI_eq {a b : Int} (h1 : -2147483648 ≤ a) (h2 : a < 2147483648) (h3 : -2147483648 ≤ b) (h4 : b < 2147483648) : zI a = zI b ↔ a = b := by
  rw [← Int32.toInt_inj, zI_t h1 h2, zI_t h3 h4]
theorem zI_pos {a : Int} (h1 : 0 ≤ a) (h2 : a < 2147483648) : 0 ≤ zI a := by
  rw [← zI_0]; exact (zI_le (by decide) (by decide) (by omega) h2).mpr h1
theorem zI_npos {a : Int} (h1 : a < 0) (h2 : -2147483648 ≤ a) : ¬ 0 ≤ zI a := by
  rw [← zI_0, zI_le (by decide) (by decide) h2 (by omega)]; omega
theorem zI_ze {a : Int} (h1 : 0 ≤ a) (h2 : a < 2147483648) : zI a = 0 ↔ a = 0 := by
  rw [← zI_0]; exact zI_eq (by omega) h2 (by decide) (by decide)
theorem zr_tm {v : Int} {P : Nat} (h1 : -2147483648 ≤ v) (h2 : v < 2147483648) (hP : P < 2147483648) : zI v - zI v / nI P * nI P = zI (v.tmod P) := by
  have e : zI v / nI P = zI (v.tdiv P) := by
    rw [← zI_n]
    exact (Int32.ofInt_tdiv (by rw [show Int32.minValue.toInt = -2147483648 from by decide]; exact h1) (by rw [show Int32.maxValue.toInt = 2147483647 from by decide]; omega) (by rw [show Int32.minValue.toInt = -2147483648 from by decide]; omega) (by rw [show Int32.maxValue.toInt = 2147483647 from by decide]; omega)).symm
  rw [e, ← zI_n, zI_mul, zI_sub, Int.tmod_def, Int.mul_comm]
theorem zr_nn {v : Int} {P : Nat} (h0 : 0 ≤ v) (h2 : v < 2147483648) (hP : P < 2147483648) : zI v - zI v / nI P * nI P = zI (v % P) := by
  rw [zr_tm (by omega) h2 hP, Int.tmod_eq_emod_of_nonneg h0]
theorem zr_cs (v : Int) {P : Nat} (hP : 0 < P) : (0 ≤ v.tmod P ∧ v.tmod P = v % P) ∨ (v.tmod P < 0 ∧ v.tmod P + P = v % P) := by
  have e := Int.tmod_add_mul_tdiv v P
  have l1 := Int.tmod_lt_of_pos v (b := (P : Int)) (by omega)
  have l2 := Int.lt_tmod_of_pos v (b := (P : Int)) (by omega)
  by_cases h : 0 ≤ v.tmod P
  · refine Or.inl ⟨h, ?_⟩
    have : v % (P : Int) = (v.tmod P + P * v.tdiv P) % P := by rw [e]
    rw [this, Int.add_mul_emod_self_left, Int.emod_eq_of_lt h l1]
  · refine Or.inr ⟨by omega, ?_⟩
    have : v % (P : Int) = (v.tmod P + P * v.tdiv P) % P := by rw [e]
    rw [this, Int.add_mul_emod_self_left, ← Int.add_emod_right, Int.emod_eq_of_lt (by omega) (by omega)]
theorem zr_b (v : Int) {P : Nat} (hP : 0 < P) : 0 ≤ v % (P : Int) ∧ v % (P : Int) < P := ⟨Int.emod_nonneg v (by omega), Int.emod_lt_of_pos v (by omega)⟩
/-- congruence -/
def md (P : Nat) (a b : Int) : Prop := ∃ k : Int, a = b + P * k
theorem md_r (P : Nat) (a : Int) : md P a a := ⟨0, by rw [Int.mul_zero, Int.add_zero]⟩
theorem md_e {P : Nat} {a b : Int} (h : a = b) : md P a b := h ▸ md_r P a
theorem md_s {P : Nat} {a b : Int} (h : md P a b) : md P b a := by
  obtain ⟨k, hk⟩ := h
  exact ⟨-k, by rw [hk, Int.mul_neg]; omega⟩
theorem md_t {P : Nat} {a b c : Int} (h : md P a b) (g : md P b c) : md P a c := by
  obtain ⟨k, hk⟩ := h
  obtain ⟨l, hl⟩ := g
  exact ⟨l + k, by rw [hk, hl, Int.mul_add]; omega⟩
theorem md_a {P : Nat} {a b c d : Int} (h : md P a b) (g : md P c d) : md P (a + c) (b + d) := by
  obtain ⟨k, hk⟩ := h
  obtain ⟨l, hl⟩ := g
  exact ⟨k + l, by rw [hk, hl, Int.mul_add]; omega⟩
theorem md_m {P : Nat} {a b : Int} (c : Int) (h : md P a b) : md P (c * a) (c * b) := by
  obtain ⟨k, hk⟩ := h
  exact ⟨c * k, by rw [hk, Int.mul_add, Int.mul_left_comm]⟩
theorem md_m' {P : Nat} {a b : Int} (c : Int) (h : md P a b) : md P (a * c) (b * c) := by
  rw [Int.mul_comm a, Int.mul_comm b]; exact md_m c h
theorem md_q (P : Nat) (a : Int) : md P (a % P) a := by
  refine ⟨-(a / P), ?_⟩
  have := Int.emod_add_mul_ediv a P
  rw [Int.mul_neg]; omega
theorem md_u {P : Nat} {a b : Int} (h : md P a b) (ha : 0 ≤ a ∧ a < P) (hb : 0 ≤ b ∧ b < P) : a = b := by
  obtain ⟨k, hk⟩ := h
  have h1 : a % (P : Int) = b % (P : Int) := by rw [hk, Int.add_mul_emod_self_left]
  rw [Int.emod_eq_of_lt ha.1 ha.2, Int.emod_eq_of_lt hb.1 hb.2] at h1
  exact h1
/-- Fermat's power, as the component reckons it -/
def fmL (P : Nat) : Nat → Nat → Nat → Nat → Nat
  | 0, _, res, _ => res
  | m + 1, base, res, bit => fmL P m (base * base % P) (if (P - 2) / 2 ^ bit % 2 = 0 then res else res * base % P) (bit + 1)
def fm (P v : Nat) : Nat := fmL P 8 v 1 0
def pP (P : Nat) : Prop := P = 5 ∨ P = 17 ∨ P = 101 ∨ P = 251
theorem pP_b {P : Nat} (h : pP P) : 5 ≤ P ∧ P ≤ 251 := by
  rcases h with h | h | h | h <;> omega
theorem fm_5 : ∀ v, v < 5 → (0 < v → v * fm 5 v % 5 = 1) ∧ fm 5 v < 5 := by decide +kernel
theorem fm_17 : ∀ v, v < 17 → (0 < v → v * fm 17 v % 17 = 1) ∧ fm 17 v < 17 := by decide +kernel
theorem fm_101 : ∀ v, v < 101 → (0 < v → v * fm 101 v % 101 = 1) ∧ fm 101 v < 101 := by decide +kernel
theorem fm_251 : ∀ v, v < 251 → (0 < v → v * fm 251 v % 251 = 1) ∧ fm 251 v < 251 := by decide +kernel
theorem fm_ok {P : Nat} (h : pP P) : ∀ v, v < P → (0 < v → v * fm P v % P = 1) ∧ fm P v < P := by
  rcases h with rfl | rfl | rfl | rfl
  · exact fm_5
  · exact fm_17
  · exact fm_101
  · exact fm_251
theorem fm_un {P v y z : Nat} (hy : y < P) (hz : z < P) (h1 : v * y % P = 1) (h2 : v * z % P = 1) : y = z := by
  have a : y * (v * z) % P = y := by
    rw [Nat.mul_mod, h2, Nat.mul_one, Nat.mod_mod, Nat.mod_eq_of_lt hy]
  have b : y * (v * z) % P = z := by
    rw [← Nat.mul_assoc, Nat.mul_comm y v, Nat.mul_mod, h1, Nat.one_mul, Nat.mod_mod, Nat.mod_eq_of_lt hz]
  exact a.symm.trans b
theorem fb_5 : ∀ b, b < 8 → ((((nI (5 - 2)) >>> (nI b &&& 31)) &&& 1) = 0 ↔ (5 - 2) / 2 ^ b % 2 = 0) := by decide +kernel
theorem fb_17 : ∀ b, b < 8 → ((((nI (17 - 2)) >>> (nI b &&& 31)) &&& 1) = 0 ↔ (17 - 2) / 2 ^ b % 2 = 0) := by decide +kernel
theorem fb_101 : ∀ b, b < 8 → ((((nI (101 - 2)) >>> (nI b &&& 31)) &&& 1) = 0 ↔ (101 - 2) / 2 ^ b % 2 = 0) := by decide +kernel
theorem fb_251 : ∀ b, b < 8 → ((((nI (251 - 2)) >>> (nI b &&& 31)) &&& 1) = 0 ↔ (251 - 2) / 2 ^ b % 2 = 0) := by decide +kernel
theorem fb_ok {P : Nat} (h : pP P) : ∀ b, b < 8 → ((((nI (P - 2)) >>> (nI b &&& 31)) &&& 1) = 0 ↔ (P - 2) / 2 ^ b % 2 = 0) := by
  rcases h with rfl | rfl | rfl | rfl
  · exact fb_5
  · exact fb_17
  · exact fb_101
  · exact fb_251
/-- the prices, at n * 7 + k -/
def pr_tb : List Nat := [0, 0, 0, 0, 0, 0, 0, 0, 0, 0, 0, 0, 0, 0, 0, 1, 1, 1, 1, 1, 1, 0, 3, 2, 2, 2, 2, 2, 0, 6, 4, 3, 3, 3, 3, 0, 10, 6, 5, 4, 4, 4, 0, 15, 8, 7, 6, 5, 5, 0, 21, 11, 9, 8, 7, 6, 0, 28, 14, 11, 10, 9, 8, 0, 36, 17, 13, 12, 11, 10, 0, 45, 20, 15, 14, 13, 12, 0, 55, 24, 18, 16, 15, 14, 0, 66, 28, 21, 18, 17, 16, 0, 78, 32, 24, 20, 19, 18, 0, 91, 36, 27, 22, 21, 20, 0, 105, 40, 30, 24, 23, 22, 0, 120, 45, 33, 27, 25, 24, 0, 136, 50, 36, 30, 27, 26, 0, 153, 55, 39, 33, 29, 28, 0, 171, 60, 42, 36, 31, 30, 0, 190, 65, 45, 39, 33, 32, 0, 210, 70, 49, 42, 35, 34, 0, 231, 76, 53, 45, 38, 36, 0, 253, 82, 57, 48, 41, 38, 0, 276, 88, 61, 51, 44, 40, 0, 300, 94, 65, 54, 47, 42, 0, 325, 100, 69, 57, 50, 44, 0, 351, 106, 73, 60, 53, 46, 0, 378, 112, 77, 63, 56, 48, 0, 406, 119, 81, 66, 59, 51, 0, 435, 126, 85, 69, 62, 54, 0, 465, 133, 89, 72, 65, 57, 0, 496, 140, 93, 75, 68, 60]
def pr_sl : List Nat := [0, 0, 0, 0, 0, 0, 0, 0, 0, 0, 0, 0, 0, 0, 0, 0, 1, 1, 1, 1, 1, 0, 0, 1, 1, 1, 1, 1, 0, 0, 1, 1, 1, 1, 1, 0, 0, 2, 1, 1, 1, 1, 0, 0, 3, 1, 1, 1, 1, 0, 0, 3, 1, 1, 1, 1, 0, 0, 4, 2, 1, 1, 1, 0, 0, 5, 3, 1, 1, 1, 0, 0, 6, 4, 1, 1, 1, 0, 0, 6, 4, 1, 1, 1, 0, 0, 7, 4, 2, 1, 1, 0, 0, 8, 4, 3, 1, 1, 0, 0, 9, 4, 4, 1, 1, 0, 0, 10, 5, 5, 1, 1, 0, 0, 10, 6, 5, 1, 1, 0, 0, 11, 7, 5, 2, 1, 0, 0, 12, 8, 5, 3, 1, 0, 0, 13, 9, 5, 4, 1, 0, 0, 14, 10, 5, 5, 1, 0, 0, 15, 10, 5, 6, 1, 0, 0, 15, 10, 5, 6, 1, 0, 0, 16, 10, 5, 6, 2, 0, 0, 17, 10, 5, 6, 3, 0, 0, 18, 10, 5, 6, 4, 0, 0, 19, 11, 6, 6, 5, 0, 0, 20, 12, 7, 6, 6, 0, 0, 21, 13, 8, 6, 7, 0, 0, 21, 14, 9, 6, 7, 0, 0, 22, 15, 10, 6, 7, 0, 0, 23, 16, 11, 6, 7, 0, 0, 24, 17, 12, 6, 7]
def pT (n k : Nat) : Nat := pr_tb.getD (n * 7 + k) 0
def pS (n k : Nat) : Nat := pr_sl.getD (n * 7 + k) 0
theorem pT_b0 : ∀ i, i < 231 → pr_tb.getD i 0 ≤ 496 := by decide +kernel
theorem pT_b {n k : Nat} (hn : n ≤ 32) (hk : k ≤ 6) : pT n k ≤ 496 := pT_b0 _ (by omega)
theorem pT_0 : ∀ k, k < 7 → pT 0 k = 0 ∧ pT 1 k = 0 := by decide +kernel
theorem pT_1 : ∀ n, n < 33 → pT n 1 = n * (n - 1) / 2 := by decide +kernel
theorem pT_1s : ∀ n, n < 32 → pT (n + 1) 1 = n + pT n 1 := by decide +kernel
theorem pT_le : ∀ k, k < 5 → ∀ n, n < 31 → ∀ m, m < n + 1 → pT (n + 2) (k + 2) ≤ (m + 1) + pT (n + 2 - (m + 1)) (k + 1) + pT (m + 1) (k + 2) := by decide +kernel
theorem pT_eq : ∀ k, k < 5 → ∀ n, n < 31 → 1 ≤ pS (n + 2) (k + 2) ∧ pS (n + 2) (k + 2) < n + 2 ∧ pT (n + 2) (k + 2) = pS (n + 2) (k + 2) + pT (n + 2 - pS (n + 2) (k + 2)) (k + 1) + pT (pS (n + 2) (k + 2)) (k + 2) := by decide +kernel
end
section
/-! the machine in plain ints: one instruction, one step, the run, tangents, adjoints -/
def cn (x : Int32) : Nat := x.toNatClampNeg
theorem cn_n {n : Nat} (h : n < 1000) : cn (nI n) = n := nI_clamp (by omega)
def ag (n : Nat) (a : Nat → Int32) (x : Nat → Int) : Prop := ∀ i, i < n → a i = zI (x i)
def rn (P n : Nat) (x : Nat → Int) : Prop := ∀ i, i < n → 0 ≤ x i ∧ x i < P
def ui (x : Nat → Int) (d : Nat) (v : Int) : Nat → Int := fun j => if j = d then v else x j
theorem ui_s {x : Nat → Int} {d : Nat} {v : Int} : ui x d v d = v := if_pos rfl
theorem ui_n {x : Nat → Int} {d i : Nat} {v : Int} (h : i ≠ d) : ui x d v i = x i := if_neg h
theorem ag_u {n : Nat} {a : Nat → Int32} {x : Nat → Int} {d : Nat} {v : Int} {w : Int32} (h : ag n a x) (e : w = zI v) : ag n (upd a d w) (ui x d v) := by
  intro i hi
  by_cases c : i = d
  · subst c; rw [pk_us, ui_s, e]
  · rw [pk_un c, ui_n c]; exact h i hi
theorem ag_m {n m : Nat} {a : Nat → Int32} {x : Nat → Int} (h : ag n a x) (hm : m ≤ n) : ag m a x := fun i hi => h i (by omega)
theorem rn_m {P n m : Nat} {x : Nat → Int} (h : rn P n x) (hm : m ≤ n) : rn P m x := fun i hi => h i (by omega)
theorem rn_u {P n : Nat} {x : Nat → Int} {d : Nat} {v : Int} (h : rn P n x) (hv : 0 ≤ v ∧ v < P) : rn P n (ui x d v) := by
  intro i hi
  by_cases c : i = d
  · subst c; rw [ui_s]; exact hv
  · rw [ui_n c]; exact h i hi
def pv (P R Q o d a b : Nat) : Prop := o ≤ 8 ∧ d < R ∧ (o = 0 → a < P) ∧ (o = 1 → a < Q) ∧ (3 ≤ o → a < R) ∧ b < R ∧ a < 1000
def pg (P R Q L : Nat) (ops dst sa sb : Nat → Int32) : Prop := ∀ j, j < L → ∃ o d a b : Nat, ops j = nI o ∧ dst j = nI d ∧ sa j = nI a ∧ sb j = nI b ∧ pv P R Q o d a b
def sz (R Q M P L : Nat) : Prop := (1 ≤ R ∧ R ≤ 6) ∧ (1 ≤ Q ∧ Q ≤ 4) ∧ (1 ≤ M ∧ M ≤ 6) ∧ pP P ∧ L ≤ 8
def cx (R Q M P L : Nat) (ops dst sa sb inp : Nat → Int32) (Ii : Nat → Int) : Prop := sz R Q M P L ∧ pg P R Q L ops dst sa sb ∧ ag 10 inp Ii ∧ rn P 10 Ii
def ev (P R : Nat) (Ii x : Nat → Int) (s o d a b : Nat) : Int :=
  if o = 0 then (a : Int) else if o = 1 then Ii (R + a) else if o = 2 then (s : Int) % P else if o = 3 then x a else if o = 4 then (x a + x b) % P else if o = 5 then (x a - x b) % P else if o = 6 then (x a * x b) % P else if o = 7 then ((fm P (x a).toNat : Nat) : Int) else if x d = 0 then x b else x a
def tv (P : Nat) (x t u : Nat → Int) (v : Int) (o d a b : Nat) : Int :=
  if o = 1 then u a else if o = 3 then t a else if o = 4 then (t a + t b) % P else if o = 5 then (t a - t b) % P else if o = 6 then (t a * x b + x a * t b) % P else if o = 7 then (-(v * v * t a)) % P else if o = 8 then (if x d = 0 then t b else t a) else 0
def xs (P R L : Nat) (ops dst sa sb : Nat → Int32) (Ii x : Nat → Int) (s : Nat) : Nat → Nat → Int
  | 0 => x
  | j + 1 => ui (xs P R L ops dst sa sb Ii x s j) (cn (dst j)) (ev P R Ii (xs P R L ops dst sa sb Ii x s j) s (cn (ops j)) (cn (dst j)) (cn (sa j)) (cn (sb j)))
def ts (P R L : Nat) (ops dst sa sb : Nat → Int32) (Ii x : Nat → Int) (s : Nat) (t u : Nat → Int) : Nat → Nat → Int
  | 0 => t
  | j + 1 => ui (ts P R L ops dst sa sb Ii x s t u j) (cn (dst j)) (tv P (xs P R L ops dst sa sb Ii x s j) (ts P R L ops dst sa sb Ii x s t u j) u (ev P R Ii (xs P R L ops dst sa sb Ii x s j) s (cn (ops j)) (cn (dst j)) (cn (sa j)) (cn (sb j))) (cn (ops j)) (cn (dst j)) (cn (sa j)) (cn (sb j)))
def ft (ops sa : Nat → Int32) (x : Nat → Int) (j : Nat) : Prop := cn (ops j) = 7 ∧ x (cn (sa j)) = 0
def XX (P R L : Nat) (ops dst sa sb : Nat → Int32) (Ii : Nat → Int) : Nat → Nat → Int
  | 0 => Ii
  | s + 1 => xs P R L ops dst sa sb Ii (XX P R L ops dst sa sb Ii s) (s + 1) L
def TT (P R L : Nat) (ops dst sa sb : Nat → Int32) (Ii u : Nat → Int) : Nat → Nat → (Nat → Int) → Nat → Int
  | 0, _, t => t
  | k + 1, q, t => TT P R L ops dst sa sb Ii u k (q + 1) (ts P R L ops dst sa sb Ii (XX P R L ops dst sa sb Ii q) (q + 1) t u L)
/-- step s (from x) has no fault among its first m instructions -/
def nj (P R L : Nat) (ops dst sa sb : Nat → Int32) (Ii x : Nat → Int) (s m : Nat) : Prop := ∀ j, j < m → ¬ ft ops sa (xs P R L ops dst sa sb Ii x s j) j
def nf (P R L : Nat) (ops dst sa sb : Nat → Int32) (Ii : Nat → Int) (N : Nat) : Prop := ∀ s, s < N → nj P R L ops dst sa sb Ii (XX P R L ops dst sa sb Ii s) (s + 1) L
section
variable {R Q M P L N q sc sp tp : Nat} {fl sw : Int32} {ops dst sa sb inp wt dr cur rg tn rx ry ad ss st co pl yr yt yu yb : Nat → Int32} {Ii Wi Vi : Nat → Int}
theorem nj_s {x : Nat → Int} {s j : Nat} (h : nj P R L ops dst sa sb Ii x s j) (hj : ¬ ft ops sa (xs P R L ops dst sa sb Ii x s j) j) : nj P R L ops dst sa sb Ii x s (j + 1) := by
  intro i hi
  by_cases c : i = j
  · subst c; exact hj
  · exact h i (by omega)
theorem nj_m {x : Nat → Int} {s j m : Nat} (h : nj P R L ops dst sa sb Ii x s m) (hj : j ≤ m) : nj P R L ops dst sa sb Ii x s j := fun i hi => h i (by omega)
theorem nj_0 {x : Nat → Int} {s : Nat} : nj P R L ops dst sa sb Ii x s 0 := fun i hi => absurd hi (Nat.not_lt_zero i)
theorem nf_s (h : nf P R L ops dst sa sb Ii N) (hj : nj P R L ops dst sa sb Ii (XX P R L ops dst sa sb Ii N) (N + 1) L) : nf P R L ops dst sa sb Ii (N + 1) := by
  intro i hi
  by_cases c : i = N
  · subst c; exact hj
  · exact h i (by omega)
theorem nf_m {m : Nat} (h : nf P R L ops dst sa sb Ii N) (hj : m ≤ N) : nf P R L ops dst sa sb Ii m := fun i hi => h i (by omega)
theorem nf_0 : nf P R L ops dst sa sb Ii 0 := fun i hi => absurd hi (Nat.not_lt_zero i)
/-- a step is without fault, or it has a first fault -/
theorem nj_d (x : Nat → Int) (s m : Nat) : nj P R L ops dst sa sb Ii x s m ∨ ∃ j, j < m ∧ nj P R L ops dst sa sb Ii x s j ∧ ft ops sa (xs P R L ops dst sa sb Ii x s j) j := by
  induction m with
  | zero => exact Or.inl nj_0
  | succ m ih =>
    rcases ih with h | ⟨j, hj, h1, h2⟩
    · by_cases c : ft ops sa (xs P R L ops dst sa sb Ii x s m) m
      · exact Or.inr ⟨m, by omega, h, c⟩
      · exact Or.inl (nj_s h c)
    · exact Or.inr ⟨j, by omega, h1, h2⟩
theorem xs_s {x : Nat → Int} {s j o d a b : Nat} (ho : ops j = nI o) (hd : dst j = nI d) (ha : sa j = nI a) (hb : sb j = nI b) (bo : o < 1000) (bd : d < 1000) (ba : a < 1000) (bb : b < 1000) : xs P R L ops dst sa sb Ii x s (j + 1) = ui (xs P R L ops dst sa sb Ii x s j) d (ev P R Ii (xs P R L ops dst sa sb Ii x s j) s o d a b) := by
  rw [xs, ho, hd, ha, hb, cn_n bo, cn_n bd, cn_n ba, cn_n bb]
theorem ts_s {x t u : Nat → Int} {s j o d a b : Nat} (ho : ops j = nI o) (hd : dst j = nI d) (ha : sa j = nI a) (hb : sb j = nI b) (bo : o < 1000) (bd : d < 1000) (ba : a < 1000) (bb : b < 1000) : ts P R L ops dst sa sb Ii x s t u (j + 1) = ui (ts P R L ops dst sa sb Ii x s t u j) d (tv P (xs P R L ops dst sa sb Ii x s j) (ts P R L ops dst sa sb Ii x s t u j) u (ev P R Ii (xs P R L ops dst sa sb Ii x s j) s o d a b) o d a b) := by
  rw [ts, ho, hd, ha, hb, cn_n bo, cn_n bd, cn_n ba, cn_n bb]
theorem ft_i {x : Nat → Int} {j o a : Nat} (ho : ops j = nI o) (ha : sa j = nI a) (bo : o < 1000) (ba : a < 1000) : ft ops sa x j ↔ (o = 7 ∧ x a = 0) := by
  rw [ft, ho, ha, cn_n bo, cn_n ba]
/-- the cases of an opcode -/
theorem op_c {o : Nat} (h : o ≤ 8) : o = 0 ∨ o = 1 ∨ o = 2 ∨ o = 3 ∨ o = 4 ∨ o = 5 ∨ o = 6 ∨ o = 7 ∨ o = 8 := by omega
theorem ev_rn {x : Nat → Int} {s o d a b : Nat} (hP : pP P) (hR : R ≤ 6) (hQ : Q ≤ 4) (h : pv P R Q o d a b) (hx : rn P R x) (hI : rn P 10 Ii) : 0 ≤ ev P R Ii x s o d a b ∧ ev P R Ii x s o d a b < P := by
  have hb := pP_b hP
  obtain ⟨h1, h2, h3, h4, h5, h6, _⟩ := h
  rcases op_c h1 with rfl | rfl | rfl | rfl | rfl | rfl | rfl | rfl | rfl
  · have := h3 rfl
    show 0 ≤ (a : Int) ∧ (a : Int) < P
    omega
  · exact hI (R + a) (by have := h4 rfl; omega)
  · exact zr_b _ (by omega)
  · exact hx a (h5 (by omega))
  · exact zr_b _ (by omega)
  · exact zr_b _ (by omega)
  · exact zr_b _ (by omega)
  · have := hx a (h5 (by omega))
    have := (fm_ok hP (x a).toNat (by omega)).2
    show 0 ≤ ((fm P (x a).toNat : Nat) : Int) ∧ ((fm P (x a).toNat : Nat) : Int) < P
    omega
  · show 0 ≤ (if x d = 0 then x b else x a) ∧ (if x d = 0 then x b else x a) < P
    by_cases c : x d = 0
    · rw [if_pos c]; exact hx b h6
    · rw [if_neg c]; exact hx a (h5 (by omega))
theorem tv_rn {x t u : Nat → Int} {v : Int} {o d a b : Nat} (hP : pP P) (h : pv P R Q o d a b) (ht : rn P R t) (hu : rn P Q u) : 0 ≤ tv P x t u v o d a b ∧ tv P x t u v o d a b < P := by
  have hb := pP_b hP
  obtain ⟨h1, h2, h3, h4, h5, h6, _⟩ := h
  have hz : (0 : Int) ≤ 0 ∧ (0 : Int) < P := by omega
  rcases op_c h1 with rfl | rfl | rfl | rfl | rfl | rfl | rfl | rfl | rfl
  · exact hz
  · exact hu a (h4 rfl)
  · exact hz
  · exact ht a (h5 (by omega))
  · exact zr_b _ (by omega)
  · exact zr_b _ (by omega)
  · exact zr_b _ (by omega)
  · exact zr_b _ (by omega)
  · show 0 ≤ (if x d = 0 then t b else t a) ∧ (if x d = 0 then t b else t a) < P
    by_cases c : x d = 0
    · rw [if_pos c]; exact ht b h6
    · rw [if_neg c]; exact ht a (h5 (by omega))
theorem xs_rn {x : Nat → Int} {s : Nat} (hz : sz R Q M P L) (hg : pg P R Q L ops dst sa sb) (hI : rn P 10 Ii) (hx : rn P R x) : ∀ j, j ≤ L → rn P R (xs P R L ops dst sa sb Ii x s j) := by
  intro j
  induction j with
  | zero => exact fun _ => hx
  | succ j ih =>
    intro hj
    obtain ⟨o, d, a, b, ho, hd, ha, hb, hv⟩ := hg j (by omega)
    have hv' := hv
    obtain ⟨h1, h2, h3, h4, h5, h6, h7⟩ := hv'
    obtain ⟨hR, hQ, hM, hP, hL⟩ := hz
    rw [xs_s ho hd ha hb (by omega) (by omega) h7 (by omega)]
    exact rn_u (ih (by omega)) (ev_rn hP hR.2 hQ.2 hv (ih (by omega)) hI)
theorem ts_rn {x t u : Nat → Int} {s : Nat} (hz : sz R Q M P L) (hg : pg P R Q L ops dst sa sb) (ht : rn P R t) (hu : rn P Q u) : ∀ j, j ≤ L → rn P R (ts P R L ops dst sa sb Ii x s t u j) := by
  intro j
  induction j with
  | zero => exact fun _ => ht
  | succ j ih =>
    intro hj
    obtain ⟨o, d, a, b, ho, hd, ha, hb, hv⟩ := hg j (by omega)
    have hv' := hv
    obtain ⟨h1, h2, h3, h4, h5, h6, h7⟩ := hv'
    obtain ⟨hR, hQ, hM, hP, hL⟩ := hz
    rw [ts_s ho hd ha hb (by omega) (by omega) h7 (by omega)]
    exact rn_u (ih (by omega)) (tv_rn hP hv (ih (by omega)) hu)
theorem XX_rn (hz : sz R Q M P L) (hg : pg P R Q L ops dst sa sb) (hI : rn P 10 Ii) : ∀ s, rn P R (XX P R L ops dst sa sb Ii s) := by
  intro s
  induction s with
  | zero => exact rn_m hI (by have := hz.1.2; omega)
  | succ s ih => exact xs_rn hz hg hI ih L (Nat.le_refl L)
end
end
section
/-! sums, and that the adjoints carry the tangents' sum back -/
def sm : Nat → (Nat → Int) → Int
  | 0, _ => 0
  | n + 1, f => sm n f + f n
theorem sm_c {f g : Nat → Int} : ∀ n : Nat, (∀ i, i < n → f i = g i) → sm n f = sm n g := by
  intro n
  induction n with
  | zero => intro _; rfl
  | succ n ih => intro h; rw [sm, sm, ih (fun i hi => h i (by omega)), h n (by omega)]
theorem sm_o {f g : Nat → Int} {d : Nat} (h : ∀ i, i ≠ d → f i = g i) : ∀ n : Nat, d < n → sm n f = sm n g + (f d - g d) := by
  intro n
  induction n with
  | zero => intro h; omega
  | succ n ih =>
    intro hd
    rw [sm, sm]
    by_cases c : d = n
    · subst c
      rw [sm_c (f := f) (g := g) d (fun i hi => h i (by omega))]; omega
    · rw [ih (by omega), h n (by omega)]; omega
theorem sm_md {P : Nat} {f g : Nat → Int} : ∀ n : Nat, (∀ i, i < n → md P (f i) (g i)) → md P (sm n f) (sm n g) := by
  intro n
  induction n with
  | zero => intro _; exact md_r P 0
  | succ n ih => intro h; rw [sm, sm]; exact md_a (ih (fun i hi => h i (by omega))) (h n (by omega))
def dt (R Q : Nat) (A t u : Nat → Int) : Int := sm R (fun i => A i * t i) + sm Q (fun j => A (R + j) * u j)
def zv (R : Nat) (t u : Nat → Int) (d : Nat) : Int := if d < R then t d else u (d - R)
theorem zv_l {R d : Nat} {t u : Nat → Int} (h : d < R) : zv R t u d = t d := if_pos h
theorem zv_r {R e : Nat} {t u : Nat → Int} : zv R t u (R + e) = u e := by
  rw [zv, if_neg (by omega), Nat.add_sub_cancel_left]
theorem dt_A {R Q d : Nat} {A t u : Nat → Int} {v : Int} (hd : d < R + Q) : dt R Q (ui A d v) t u = dt R Q A t u + (v - A d) * zv R t u d := by
  by_cases c : d < R
  · rw [zv_l c, dt, dt, sm_o (f := fun i => ui A d v i * t i) (g := fun i => A i * t i) (d := d) (fun i hi => by show ui A d v i * t i = A i * t i; rw [ui_n hi]) R c, sm_c (f := fun j => ui A d v (R + j) * u j) (g := fun j => A (R + j) * u j) Q (fun j hj => by show ui A d v (R + j) * u j = A (R + j) * u j; rw [ui_n (by omega)])]
    show _ + (ui A d v d * t d - A d * t d) + _ = _
    rw [ui_s, Int.sub_mul]; omega
  · obtain ⟨e, rfl⟩ : ∃ e, d = R + e := ⟨d - R, by omega⟩
    rw [zv_r, dt, dt, sm_c (f := fun i => ui A (R + e) v i * t i) (g := fun i => A i * t i) R (fun i hi => by show ui A (R + e) v i * t i = A i * t i; rw [ui_n (by omega)]), sm_o (f := fun j => ui A (R + e) v (R + j) * u j) (g := fun j => A (R + j) * u j) (d := e) (fun j hj => by show ui A (R + e) v (R + j) * u j = A (R + j) * u j; rw [ui_n (by omega)]) Q (by omega)]
    show _ + (_ + (ui A (R + e) v (R + e) * u e - A (R + e) * u e)) = _
    rw [ui_s, Int.sub_mul]; omega
theorem dt_t {R Q d : Nat} {A t u : Nat → Int} {w : Int} (hd : d < R) : dt R Q A (ui t d w) u = dt R Q A t u + A d * (w - t d) := by
  rw [dt, dt, sm_o (f := fun i => A i * ui t d w i) (g := fun i => A i * t i) (d := d) (fun i hi => by show A i * ui t d w i = A i * t i; rw [ui_n hi]) R hd]
  show _ + (A d * ui t d w d - A d * t d) + _ = _
  rw [ui_s, Int.mul_sub]; omega
def ac (P : Nat) (A : Nat → Int) (i : Nat) (m : Int) : Nat → Int := ui A i ((A i + m) % P)
theorem ac_d {P R Q i : Nat} {A t u : Nat → Int} {m : Int} (hi : i < R + Q) : md P (dt R Q (ac P A i m) t u) (dt R Q A t u + m * zv R t u i) := by
  rw [ac, dt_A hi]
  refine md_a (md_r P _) (md_m' _ ?_)
  obtain ⟨k, hk⟩ := md_q P (A i + m)
  exact ⟨k, by rw [hk]; omega⟩
def rv (P R : Nat) (x : Nat → Int) (v : Int) (o d a b : Nat) (A : Nat → Int) : Nat → Int :=
  if A d = 0 then ui A d 0 else if o = 1 then ac P (ui A d 0) (R + a) (A d) else if o = 3 then ac P (ui A d 0) a (A d) else if o = 4 then ac P (ac P (ui A d 0) a (A d)) b (A d) else if o = 5 then ac P (ac P (ui A d 0) a (A d)) b (-(A d)) else if o = 6 then ac P (ac P (ui A d 0) a (A d * x b)) b (A d * x a) else if o = 7 then ac P (ui A d 0) a (-(v * v * A d)) else if o = 8 then ac P (ui A d 0) (if x d = 0 then b else a) (A d) else ui A d 0
theorem ac_rn {P n i : Nat} {A : Nat → Int} {m : Int} (hP : 0 < P) (h : rn P n A) : rn P n (ac P A i m) := rn_u h (zr_b _ hP)
theorem rv_rn {P R n o d a b : Nat} {x A : Nat → Int} {v : Int} (hP : 0 < P) (h : rn P n A) : rn P n (rv P R x v o d a b A) := by
  have h0 : rn P n (ui A d 0) := rn_u h (by omega)
  unfold rv
  repeat' split
  all_goals first | exact h0 | exact ac_rn hP h0 | exact ac_rn hP (ac_rn hP h0)
section
variable {P R Q : Nat}
theorem du_1 {A t u : Nat → Int} {g w m : Int} {d i : Nat} (hd : d < R) (hg : A d = g) (hi : i < R + Q) (hw : md P (g * w) (m * zv R t u i)) : md P (dt R Q A (ui t d w) u) (dt R Q (ac P (ui A d 0) i m) t u) := by
  refine md_t ?_ (md_s (ac_d hi))
  rw [dt_t hd, dt_A (by omega), zv_l hd, hg, Int.mul_sub, Int.zero_sub, Int.neg_mul]
  have : dt R Q A t u + (g * w - g * t d) = dt R Q A t u + -(g * t d) + g * w := by omega
  rw [this]
  exact md_a (md_r P _) hw
theorem du_2 {A t u : Nat → Int} {g w m m' : Int} {d i i' : Nat} (hd : d < R) (hg : A d = g) (hi : i < R + Q) (hi' : i' < R + Q) (hw : md P (g * w) (m * zv R t u i + m' * zv R t u i')) : md P (dt R Q A (ui t d w) u) (dt R Q (ac P (ac P (ui A d 0) i m) i' m') t u) := by
  refine md_t ?_ (md_s (ac_d hi'))
  refine md_t ?_ (md_a (md_s (ac_d hi)) (md_r P _))
  rw [dt_t hd, dt_A (by omega), zv_l hd, hg, Int.mul_sub, Int.zero_sub, Int.neg_mul]
  have : dt R Q A t u + (g * w - g * t d) = dt R Q A t u + -(g * t d) + g * w := by omega
  rw [this, Int.add_assoc (dt R Q A t u + -(g * t d))]
  exact md_a (md_r P _) hw
theorem du_0 {A t u : Nat → Int} {g w : Int} {d : Nat} (hd : d < R) (hg : A d = g) (hw : md P (g * w) 0) : md P (dt R Q A (ui t d w) u) (dt R Q (ui A d 0) t u) := by
  rw [dt_t hd, dt_A (by omega), zv_l hd, hg, Int.mul_sub, Int.zero_sub, Int.neg_mul]
  have : dt R Q A t u + (g * w - g * t d) = dt R Q A t u + -(g * t d) + g * w := by omega
  rw [this]
  have := md_a (md_r P (dt R Q A t u + -(g * t d))) hw
  rw [Int.add_zero] at this
  exact this
theorem rv_du {x t u A : Nat → Int} {v : Int} {o d a b : Nat} (h : pv P R Q o d a b) : md P (dt R Q A (ui t d (tv P x t u v o d a b)) u) (dt R Q (rv P R x v o d a b A) t u) := by
  obtain ⟨h1, h2, h3, h4, h5, h6, _⟩ := h
  by_cases z : A d = 0
  · rw [rv, if_pos z]
    exact du_0 h2 z (by rw [Int.zero_mul]; exact md_r P 0)
  rw [rv, if_neg z]
  rcases op_c h1 with rfl | rfl | rfl | rfl | rfl | rfl | rfl | rfl | rfl
  · exact du_0 h2 rfl (by show md P (A d * 0) 0; rw [Int.mul_zero]; exact md_r P 0)
  · exact du_1 h2 rfl (by have := h4 rfl; omega) (by rw [zv_r]; exact md_r P _)
  · exact du_0 h2 rfl (by show md P (A d * 0) 0; rw [Int.mul_zero]; exact md_r P 0)
  · exact du_1 h2 rfl (by have := h5 (by omega); omega) (by rw [zv_l (h5 (by omega))]; exact md_r P _)
  · have ha := h5 (by omega)
    refine du_2 h2 rfl (by omega) (by omega) ?_
    rw [zv_l ha, zv_l h6, ← Int.mul_add]
    exact md_m _ (md_q P _)
  · have ha := h5 (by omega)
    refine du_2 h2 rfl (by omega) (by omega) ?_
    rw [zv_l ha, zv_l h6, Int.neg_mul, ← Int.sub_eq_add_neg, ← Int.mul_sub]
    exact md_m _ (md_q P _)
  · have ha := h5 (by omega)
    refine du_2 h2 rfl (by omega) (by omega) ?_
    rw [zv_l ha, zv_l h6]
    refine md_t (md_m _ (md_q P _)) (md_e ?_)
    grind
  · have ha := h5 (by omega)
    refine du_1 h2 rfl (by omega) ?_
    rw [zv_l ha]
    refine md_t (md_m _ (md_q P _)) (md_e ?_)
    grind
  · have ha := h5 (by omega)
    show md P (dt R Q A (ui t d (if x d = 0 then t b else t a)) u) (dt R Q (ac P (ui A d 0) (if x d = 0 then b else a) (A d)) t u)
    by_cases c : x d = 0
    · rw [if_pos c, if_pos c]
      exact du_1 h2 rfl (by omega) (by rw [zv_l h6]; exact md_r P _)
    · rw [if_neg c, if_neg c]
      exact du_1 h2 rfl (by omega) (by rw [zv_l ha]; exact md_r P _)
end
end
section
/-! the component: residue, inverse, one instruction -/
section
variable {R Q M P L N q sc sp tp : Nat} {fl sw : Int32} {ops dst sa sb inp wt dr cur rg tn rx ry ad ss st co pl yr yt yu yb : Nat → Int32} {Ii Wi Vi : Nat → Int}
theorem x_res {post : Int32 → Prop} {v : Int} (hP : pP P) (h1 : -2147483648 ≤ v) (h2 : v < 2147483648) (h : post (zI (v % P))) : wpX_residue post (nI R, nI Q, nI M, nI P, nI L, nI N, fl, sw, nI q, nI sc, nI sp, nI tp, ops, dst, sa, sb, inp, wt, dr, cur, rg, tn, rx, ry, ad, ss, st, co, pl) (zI v) := by
  have hb := pP_b hP
  refine And.intro (nI_ne0 (by omega) (by omega)) (nm_r (zr_tm (by omega) (by omega) (by omega)) ?_)
  have hr := zr_b v (P := P) (by omega)
  rcases zr_cs v (P := P) (by omega) with ⟨a, e⟩ | ⟨a, e⟩
  · refine br_t (zI_pos a (by omega)) ?_
    rw [e]; exact h
  · refine br_f (zI_npos a (by omega)) ?_
    rw [← zI_n, zI_add, e]; exact h
theorem x_iv {post : Int32 → Prop} (hP : pP P) : ∀ m base res bit : Nat, bit + m = 8 → base < P → res < P → post (nI (fmL P m base res bit)) → ∀ n, m < n → wX_inverse_21 post (nI (P - 2)) (nI R) (nI Q) (nI M) (nI P) (nI L) (nI N) fl sw (nI q) (nI sc) (nI sp) (nI tp) ops dst sa sb inp wt dr cur rg tn rx ry ad ss st co pl n (nI base) (nI res) (nI bit) := by
  have hb := pP_b hP
  intro m
  induction m with
  | zero =>
    intro base res bit e1 e2 e3 h n hn
    obtain ⟨n, rfl⟩ : ∃ k, n = k + 1 := ⟨n - 1, by omega⟩
    rw [wX_inverse_21]
    exact br_t (nI_le (a := 8) (by omega) (by omega)) h
  | succ m ih =>
    intro base res bit e1 e2 e3 h n hn
    obtain ⟨n, rfl⟩ : ∃ k, n = k + 1 := ⟨n - 1, by omega⟩
    have hm : ∀ y : Nat, y % P < P := fun y => Nat.mod_lt _ (by omega)
    have hbb : base * base < 2 ^ 31 := Nat.lt_of_le_of_lt (Nat.mul_le_mul (Nat.le_of_lt e2) (Nat.le_of_lt e2)) (Nat.lt_of_le_of_lt (Nat.mul_le_mul hb.2 hb.2) (by decide))
    have hrb : res * base < 2 ^ 31 := Nat.lt_of_le_of_lt (Nat.mul_le_mul (Nat.le_of_lt e3) (Nat.le_of_lt e2)) (Nat.lt_of_le_of_lt (Nat.mul_le_mul hb.2 hb.2) (by decide))
    have hp0 : ¬ nI P = 0 := nI_ne0 (by omega) (by omega)
    have K : ∀ r : Nat, r < P → post (nI (fmL P m (base * base % P) r (bit + 1))) → wX_inverse_48 post (wX_inverse_21 post (nI (P - 2)) (nI R) (nI Q) (nI M) (nI P) (nI L) (nI N) fl sw (nI q) (nI sc) (nI sp) (nI tp) ops dst sa sb inp wt dr cur rg tn rx ry ad ss st co pl n) (nI (P - 2)) (nI base) (nI r) (nI bit) (nI R) (nI Q) (nI M) (nI P) (nI L) (nI N) fl sw (nI q) (nI sc) (nI sp) (nI tp) ops dst sa sb inp wt dr cur rg tn rx ry ad ss st co pl := by
      intro r hr h'
      refine And.intro hp0 (nm_r (e' := nI (base * base % P)) ?_ (nm_r (nI_1 bit) ?_))
      · rw [pk_mul]; exact pk_rem hbb (by omega) (by omega)
      · exact ih _ _ _ (by omega) (hm _) hr h' n (by omega)
    rw [wX_inverse_21]
    refine br_f (nI_ge (b := 8) (by omega) (by omega)) ?_
    rw [fmL] at h
    by_cases c : (P - 2) / 2 ^ bit % 2 = 0
    · rw [if_pos c] at h
      exact br_t ((fb_ok hP bit (by omega)).mpr c) (K res e3 h)
    · rw [if_neg c] at h
      refine br_f (fun z => c ((fb_ok hP bit (by omega)).mp z)) (And.intro hp0 (nm_r (e' := nI (res * base % P)) ?_ (K _ (hm _) h)))
      rw [pk_mul]; exact pk_rem hrb (by omega) (by omega)
theorem x_inv {post : Int32 → Prop} {v : Int} (hP : pP P) (h0 : 0 ≤ v) (h1 : v < P) (hz : v = 0 → post (-1)) (h : v ≠ 0 → post (zI ((fm P v.toNat : Nat) : Int))) : wpX_inverse post (nI R, nI Q, nI M, nI P, nI L, nI N, fl, sw, nI q, nI sc, nI sp, nI tp, ops, dst, sa, sb, inp, wt, dr, cur, rg, tn, rx, ry, ad, ss, st, co, pl) (zI v) := by
  have hb := pP_b hP
  refine br_c (fun z => hz ((zI_ze h0 (by omega)).mp z)) (fun z => nm_r (e' := nI (P - 2)) (pk_sub (b := 2) (by omega)) ⟨9, ?_⟩)
  have hv : v ≠ 0 := fun c => z ((zI_ze h0 (by omega)).mpr c)
  rw [zI_N h0]
  refine x_iv hP 8 v.toNat 1 0 rfl (by omega) (by omega) ?_ 9 (by omega)
  have := h hv
  rw [zI_n] at this
  exact this
theorem mu_b {P : Nat} {x y : Int} (hP : P ≤ 251) (hx : 0 ≤ x ∧ x < P) (hy : 0 ≤ y ∧ y < P) : 0 ≤ x * y ∧ x * y ≤ 62500 := by
  refine ⟨Int.mul_nonneg hx.1 hy.1, ?_⟩
  have h1 : x * y ≤ 250 * y := Int.mul_le_mul_of_nonneg_right (by omega) hy.1
  omega
theorem mu_b3 {P : Nat} {x y z : Int} (hP : P ≤ 251) (hx : 0 ≤ x ∧ x < P) (hy : 0 ≤ y ∧ y < P) (hz : 0 ≤ z ∧ z < P) : 0 ≤ x * y * z ∧ x * y * z ≤ 15625000 := by
  have h := mu_b hP hx hy
  refine ⟨Int.mul_nonneg h.1 hz.1, ?_⟩
  have h1 : x * y * z ≤ 62500 * z := Int.mul_le_mul_of_nonneg_right h.2 hz.1
  omega
theorem x_ev {post : Int32 → Prop} {x : Nat → Int} {s j o d a b : Nat} (hz : sz R Q M P L) (hjL : j < 8) (ho : ops j = nI o) (hd : dst j = nI d) (ha : sa j = nI a) (hb : sb j = nI b) (hv : pv P R Q o d a b) (hI : ag 10 inp Ii) (hx : ag R rg x) (hr : rn P R x) (hs : s < 1000) (h : ¬ (o = 7 ∧ x a = 0) → post (zI (ev P R Ii x s o d a b))) (h' : (o = 7 ∧ x a = 0) → post (-1)) : wpX_evaluate post (nI R, nI Q, nI M, nI P, nI L, nI N, fl, sw, nI q, nI sc, nI sp, nI tp, ops, dst, sa, sb, inp, wt, dr, cur, rg, tn, rx, ry, ad, ss, st, co, pl) (nI j) (nI s) := by
  obtain ⟨hR, hQ, hM, hP, hL⟩ := hz
  obtain ⟨v1, v2, v3, v4, v5, v6, v7⟩ := hv
  have pb := pP_b hP
  have hj8 : vp_in (nI j) 8 := vp_in_nI hjL (by omega)
  have cj : (nI j).toNatClampNeg = j := nI_clamp (by omega)
  have ca : (nI a).toNatClampNeg = a := nI_clamp (by omega)
  have cb : (nI b).toNatClampNeg = b := nI_clamp (by omega)
  have cd : (nI d).toNatClampNeg = d := nI_clamp (by omega)
  have ib : vp_in (nI b) 6 := vp_in_nI (by omega) (by omega)
  have hp0 : ¬ nI P = 0 := nI_ne0 (by omega) (by omega)
  have xb := hr b v6
  refine And.intro hj8 (nm_r (e' := nI a) (by rw [cj, ha]) (And.intro hj8 (nm_r (e' := nI b) (by rw [cj, hb]) (And.intro hj8 (nm_r (e' := nI o) (by rw [cj, ho]) ?_)))))
  rcases op_c v1 with rfl | rfl | rfl | rfl | rfl | rfl | rfl | rfl | rfl
  · have h := h (by omega)
    refine br_f (by decide) (br_f (by decide) (br_t (by decide) ?_))
    rw [← zI_n]; exact h
  · have h := h (by omega)
    have := v4 rfl
    refine br_f (by decide) (br_f (by decide) (br_f (by decide) (br_t (by decide) ?_)))
    rw [nI_add]
    refine And.intro (vp_in_nI (by omega) (by omega)) ?_
    rw [nI_clamp (by omega), hI _ (by omega)]
    exact h
  · have h := h (by omega)
    refine br_f (by decide) (br_f (by decide) (br_f (by decide) (br_f (by decide) (br_t (by decide) (And.intro hp0 ?_)))))
    rw [← zI_n s, zr_nn (by omega) (by omega) (by omega)]
    exact h
  · have h := h (by omega)
    have la := v5 (by omega)
    refine br_f (by decide) (br_f (by decide) (br_f (by decide) (br_f (by decide) (br_f (by decide) (br_t (by decide) (And.intro (vp_in_nI (by omega) (by omega)) ?_))))))
    rw [ca, hx a la]
    exact h
  · have h := h (by omega)
    have la := v5 (by omega)
    have xa := hr a la
    refine br_f (by decide) (br_f (by decide) (br_f (by decide) (br_f (by decide) (br_f (by decide) (br_f (by decide) (br_t (by decide) (And.intro (vp_in_nI (by omega) (by omega)) (And.intro ib (And.intro hp0 ?_)))))))))
    rw [ca, cb, hx a la, hx b v6, zI_add, zr_nn (by omega) (by omega) (by omega)]
    exact h
  · have h := h (by omega)
    have la := v5 (by omega)
    have xa := hr a la
    refine br_f (by decide) (br_f (by decide) (br_f (by decide) (br_f (by decide) (br_f (by decide) (br_f (by decide) (br_f (by decide) (br_t (by decide) (And.intro (vp_in_nI (by omega) (by omega)) (And.intro ib ?_)))))))))
    rw [ca, cb, hx a la, hx b v6, zI_sub]
    exact x_res hP (by omega) (by omega) h
  · have h := h (by omega)
    have la := v5 (by omega)
    have xa := hr a la
    have hm := mu_b pb.2 xa xb
    refine br_f (by decide) (br_f (by decide) (br_f (by decide) (br_f (by decide) (br_f (by decide) (br_f (by decide) (br_f (by decide) (br_f (by decide) (br_t (by decide) (And.intro (vp_in_nI (by omega) (by omega)) (And.intro ib (And.intro hp0 ?_)))))))))))
    rw [ca, cb, hx a la, hx b v6, zI_mul, zr_nn (by omega) (by omega) (by omega)]
    exact h
  · have la := v5 (by omega)
    have xa := hr a la
    refine br_f (by decide) (br_f (by decide) (br_f (by decide) (br_f (by decide) (br_f (by decide) (br_f (by decide) (br_f (by decide) (br_f (by decide) (br_f (by decide) (br_t (by decide) (And.intro (vp_in_nI (by omega) (by omega)) ?_))))))))))
    rw [ca, hx a la]
    exact x_inv hP xa.1 xa.2 (fun z => h' ⟨rfl, z⟩) (fun z => h (fun c => z c.2))
  · have h := h (by omega)
    have la := v5 (by omega)
    have xa := hr a la
    have xd := hr d v2
    refine br_f (by decide) (br_t (by decide) (And.intro hj8 ?_))
    rw [cj, hd]
    refine And.intro (vp_in_nI (by omega) (by omega)) ?_
    rw [ca, cb, cd, hx a la, hx b v6, hx d v2]
    have h : post (zI (if x d = 0 then x b else x a)) := h
    by_cases c : x d = 0
    · rw [if_pos c] at h
      exact br_t ((zI_ze xd.1 (by omega)).mpr c) (And.intro ib h)
    · rw [if_neg c] at h
      exact br_f (fun z => c ((zI_ze xd.1 (by omega)).mp z)) (And.intro (vp_in_nI (by omega) (by omega)) h)
theorem x_tv {post : Int32 → Prop} {x t u : Nat → Int} {v : Int} {j o d a b : Nat} (hz : sz R Q M P L) (hjL : j < 8) (ho : ops j = nI o) (hd : dst j = nI d) (ha : sa j = nI a) (hb : sb j = nI b) (hv : pv P R Q o d a b) (hx : ag R rg x) (hr : rn P R x) (ht : ag R tn t) (htr : rn P R t) (hu : ∀ i, i < Q → dr (R + i) = zI (u i)) (hvr : 0 ≤ v ∧ v < P) (h : post (zI (tv P x t u v o d a b))) : wpX_evaluateTangent post (nI R, nI Q, nI M, nI P, nI L, nI N, fl, sw, nI q, nI sc, nI sp, nI tp, ops, dst, sa, sb, inp, wt, dr, cur, rg, tn, rx, ry, ad, ss, st, co, pl) (nI j) (zI v) := by
  obtain ⟨hR, hQ, hM, hP, hL⟩ := hz
  obtain ⟨v1, v2, v3, v4, v5, v6, v7⟩ := hv
  have pb := pP_b hP
  have hj8 : vp_in (nI j) 8 := vp_in_nI hjL (by omega)
  have cj : (nI j).toNatClampNeg = j := nI_clamp (by omega)
  have ca : (nI a).toNatClampNeg = a := nI_clamp (by omega)
  have cb : (nI b).toNatClampNeg = b := nI_clamp (by omega)
  have cd : (nI d).toNatClampNeg = d := nI_clamp (by omega)
  have ib : vp_in (nI b) 6 := vp_in_nI (by omega) (by omega)
  have hp0 : ¬ nI P = 0 := nI_ne0 (by omega) (by omega)
  have xb := hr b v6
  have tb := htr b v6
  refine And.intro hj8 (nm_r (e' := nI a) (by rw [cj, ha]) (And.intro hj8 (nm_r (e' := nI b) (by rw [cj, hb]) (And.intro hj8 (nm_r (e' := nI o) (by rw [cj, ho]) ?_)))))
  rcases op_c v1 with rfl | rfl | rfl | rfl | rfl | rfl | rfl | rfl | rfl
  · exact br_t (by decide) h
  · have := v4 rfl
    refine br_f (by decide) (br_f (by decide) (br_t (by decide) ?_))
    rw [nI_add]
    refine And.intro (vp_in_nI (by omega) (by omega)) ?_
    rw [nI_clamp (by omega), hu _ (by omega)]
    exact h
  · exact br_f (by decide) (br_f (by decide) (br_f (by decide) (br_t (by decide) h)))
  · have la := v5 (by omega)
    refine br_f (by decide) (br_f (by decide) (br_f (by decide) (br_f (by decide) (br_t (by decide) (And.intro (vp_in_nI (by omega) (by omega)) ?_)))))
    rw [ca, ht a la]
    exact h
  · have la := v5 (by omega)
    have ta := htr a la
    refine br_f (by decide) (br_f (by decide) (br_f (by decide) (br_f (by decide) (br_f (by decide) (br_t (by decide) (And.intro (vp_in_nI (by omega) (by omega)) (And.intro ib (And.intro hp0 ?_))))))))
    rw [ca, cb, ht a la, ht b v6, zI_add, zr_nn (by omega) (by omega) (by omega)]
    exact h
  · have la := v5 (by omega)
    have ta := htr a la
    refine br_f (by decide) (br_f (by decide) (br_f (by decide) (br_f (by decide) (br_f (by decide) (br_f (by decide) (br_t (by decide) (And.intro (vp_in_nI (by omega) (by omega)) (And.intro ib ?_))))))))
    rw [ca, cb, ht a la, ht b v6, zI_sub]
    exact x_res hP (by omega) (by omega) h
  · have la := v5 (by omega)
    have ta := htr a la
    have xa := hr a la
    have ia : vp_in (nI a) 6 := vp_in_nI (by omega) (by omega)
    have m1 := mu_b pb.2 ta xb
    have m2 := mu_b pb.2 xa tb
    refine br_f (by decide) (br_f (by decide) (br_f (by decide) (br_f (by decide) (br_f (by decide) (br_f (by decide) (br_f (by decide) (br_t (by decide) (And.intro ia (And.intro ib (And.intro ia (And.intro ib (And.intro hp0 ?_))))))))))))
    rw [ca, cb, ht a la, ht b v6, hx a la, hx b v6, zI_mul, zI_mul, zI_add, zr_nn (by omega) (by omega) (by omega)]
    exact h
  · have la := v5 (by omega)
    have ta := htr a la
    have m3 := mu_b3 pb.2 hvr hvr ta
    refine br_f (by decide) (br_f (by decide) (br_f (by decide) (br_f (by decide) (br_f (by decide) (br_f (by decide) (br_f (by decide) (br_f (by decide) (br_t (by decide) (And.intro (vp_in_nI (by omega) (by omega)) ?_)))))))))
    rw [ca, ht a la, zI_mul, zI_mul, zI_neg]
    exact x_res hP (by omega) (by omega) h
  · have la := v5 (by omega)
    have xd := hr d v2
    refine br_f (by decide) (br_f (by decide) (br_f (by decide) (br_f (by decide) (br_f (by decide) (br_f (by decide) (br_f (by decide) (br_f (by decide) (br_f (by decide) (br_t (by decide) (And.intro hj8 ?_))))))))))
    rw [cj, hd]
    refine And.intro (vp_in_nI (by omega) (by omega)) ?_
    rw [ca, cb, cd, ht a la, ht b v6, hx d v2]
    have h : post (zI (if x d = 0 then t b else t a)) := h
    by_cases c : x d = 0
    · rw [if_pos c] at h
      exact br_t ((zI_ze xd.1 (by omega)).mpr c) (And.intro ib h)
    · rw [if_neg c] at h
      exact br_f (fun z => c ((zI_ze xd.1 (by omega)).mp z)) (And.intro (vp_in_nI (by omega) (by omega)) h)
end
end
section
/-! the component: copies, steps, the run, the dual run -/
def cp (n : Nat) (c s : Nat → Int32) : Prop := ∀ k, k < n → c k = s k
theorem cp_0 {c s : Nat → Int32} : cp 0 c s := fun k hk => absurd hk (Nat.not_lt_zero k)
theorem cp_u {n : Nat} {c s : Nat → Int32} {w : Int32} (h : cp n c s) (e : w = s n) : cp (n + 1) (upd c n w) s := by
  intro k hk
  by_cases z : k = n
  · subst z; rw [pk_us, e]
  · rw [pk_un z]; exact h k (by omega)
theorem ag_cp {n m : Nat} {c s : Nat → Int32} {x : Nat → Int} (h : cp n c s) (g : ag m s x) (hm : n ≤ m) : ag n c x := fun k hk => (h k hk).trans (g k (by omega))
theorem fu {d n : Nat} (h : d < n) : ∃ k, n = k + 1 ∧ d ≤ k := ⟨n - 1, by omega, by omega⟩
section
variable {R Q M P L N q sc sp tp : Nat} {fl sw : Int32} {ops dst sa sb inp wt dr cur rg tn rx ry ad ss st co pl yr yt yu yb : Nat → Int32} {Ii Wi Vi : Nat → Int}
theorem x_ls {post : SX → Prop} (hR : R ≤ 6) (K : ∀ c', cp R c' inp → post (nI R, nI Q, nI M, nI P, nI L, nI N, fl, sw, nI q, nI sc, nI sp, nI tp, ops, dst, sa, sb, inp, wt, dr, cur, c', tn, rx, ry, ad, ss, st, co, pl)) : ∀ d i c, i + d = R → cp i c inp → ∀ n, d < n → wX_loadStart_2 post (nI R) (nI Q) (nI M) (nI P) (nI L) (nI N) fl sw (nI q) (nI sc) (nI sp) (nI tp) n (nI i) ops dst sa sb inp wt dr cur c tn rx ry ad ss st co pl := by
  intro d
  induction d with
  | zero =>
    intro i c e h n hn
    obtain ⟨n, rfl, _⟩ := fu hn
    obtain rfl : i = R := by omega
    exact br_t (nI_le (Nat.le_refl _) (by omega)) (K c h)
  | succ d ih =>
    intro i c e h n hn
    obtain ⟨n, rfl, _⟩ := fu hn
    refine br_f (nI_ge (by omega) (by omega)) (And.intro (vp_in_nI (by omega) (by omega)) (And.intro (vp_in_nI (by omega) (by omega)) (nm_e (nm_r (nI_1 i) ?_))))
    rw [nI_clamp (by omega)]
    exact ih (i + 1) _ (by omega) (cp_u h rfl) n (by omega)
theorem x_load {post : SX → Prop} (hR : R ≤ 6) (K : ∀ c', cp R c' inp → post (nI R, nI Q, nI M, nI P, nI L, nI N, fl, sw, nI q, nI sc, nI sp, nI tp, ops, dst, sa, sb, inp, wt, dr, cur, c', tn, rx, ry, ad, ss, st, co, pl)) : wpX_loadStart post (nI R, nI Q, nI M, nI P, nI L, nI N, fl, sw, nI q, nI sc, nI sp, nI tp, ops, dst, sa, sb, inp, wt, dr, cur, rg, tn, rx, ry, ad, ss, st, co, pl) := by
  exact Exists.intro (R + 1) (x_ls hR K R 0 rg (by omega) cp_0 (R + 1) (by omega))
theorem x_dl {post : SX → Prop} (hR : R ≤ 6) (K : ∀ c', cp R c' inp → post (nI R, nI Q, nI M, nI P, nI L, nI N, fl, sw, nI q, nI sc, nI sp, nI tp, ops, dst, sa, sb, inp, wt, dr, c', rg, tn, rx, ry, ad, ss, st, co, pl)) : ∀ d i c, i + d = R → cp i c inp → ∀ n, d < n → wX_discardRun_17 post (nI R) (nI Q) (nI M) (nI P) (nI L) (nI N) fl sw (nI q) (nI sc) (nI sp) (nI tp) n (nI i) ops dst sa sb inp wt dr c rg tn rx ry ad ss st co pl := by
  intro d
  induction d with
  | zero =>
    intro i c e h n hn
    obtain ⟨n, rfl, _⟩ := fu hn
    obtain rfl : i = R := by omega
    exact br_t (nI_le (Nat.le_refl _) (by omega)) (K c h)
  | succ d ih =>
    intro i c e h n hn
    obtain ⟨n, rfl, _⟩ := fu hn
    refine br_f (nI_ge (by omega) (by omega)) (And.intro (vp_in_nI (by omega) (by omega)) (And.intro (vp_in_nI (by omega) (by omega)) (nm_e (nm_r (nI_1 i) ?_))))
    rw [nI_clamp (by omega)]
    exact ih (i + 1) _ (by omega) (cp_u h rfl) n (by omega)
theorem x_dis {post : SX → Prop} (hR : R ≤ 6) (K : ∀ c', cp R c' inp → post (nI R, nI Q, nI M, nI P, nI L, nI 0, -1, 0, nI q, nI sc, nI sp, nI tp, ops, dst, sa, sb, inp, wt, dr, c', rg, tn, rx, ry, ad, ss, st, co, pl)) : wpX_discardRun post (nI R, nI Q, nI M, nI P, nI L, nI N, fl, sw, nI q, nI sc, nI sp, nI tp, ops, dst, sa, sb, inp, wt, dr, cur, rg, tn, rx, ry, ad, ss, st, co, pl) := by
  exact Exists.intro (R + 1) (x_dl (N := 0) (fl := -1) (sw := 0) hR K R 0 cur (by omega) cp_0 (R + 1) (by omega))
theorem x_sl {post : Int32 → SX → Prop} {x : Nat → Int} {s : Nat} (hc : cx R Q M P L ops dst sa sb inp Ii) (hr : rn P R x) (hs : s < 1000) (K1 : nj P R L ops dst sa sb Ii x s L → ∀ a', ag R a' (xs P R L ops dst sa sb Ii x s L) → post (-1) (nI R, nI Q, nI M, nI P, nI L, nI N, fl, sw, nI q, nI sc, nI sp, nI tp, ops, dst, sa, sb, inp, wt, dr, cur, a', tn, rx, ry, ad, ss, st, co, pl)) (K2 : ∀ j0, j0 < L → nj P R L ops dst sa sb Ii x s j0 → ft ops sa (xs P R L ops dst sa sb Ii x s j0) j0 → ∀ a', post (nI j0) (nI R, nI Q, nI M, nI P, nI L, nI N, fl, sw, nI q, nI sc, nI sp, nI tp, ops, dst, sa, sb, inp, wt, dr, cur, a', tn, rx, ry, ad, ss, st, co, pl)) : ∀ d j a, j + d = L → nj P R L ops dst sa sb Ii x s j → ag R a (xs P R L ops dst sa sb Ii x s j) → ∀ n, d < n → wX_stepForward_2 post (nI s) (nI R) (nI Q) (nI M) (nI P) (nI L) (nI N) fl sw (nI q) (nI sc) (nI sp) (nI tp) n (nI j) ops dst sa sb inp wt dr cur a tn rx ry ad ss st co pl := by
  intro d
  induction d with
  | zero =>
    intro j a e h g n hn
    obtain ⟨n, rfl, _⟩ := fu hn
    obtain rfl : j = L := by omega
    have := hc.1.2.2.2.2
    exact br_t (nI_le (Nat.le_refl _) (by omega)) (K1 h a g)
  | succ d ih =>
    intro j a e h g n hn
    obtain ⟨n, rfl, _⟩ := fu hn
    obtain ⟨hz, hg, hI, hIr⟩ := hc
    have hL := hz.2.2.2.2
    have hR := hz.1.2
    have hb := pP_b hz.2.2.2.1
    obtain ⟨o, dd, aa, bb, ho, hd, ha, hbb, hv⟩ := hg j (by omega)
    have hxr := xs_rn hz hg hIr hr (s := s) j (by omega)
    have he := ev_rn (s := s) hz.2.2.2.1 hR hz.2.1.2 hv hxr hIr
    obtain ⟨v1, v2, v3, v4, v5, v6, v7⟩ := id hv
    refine br_f (nI_ge (by omega) (by omega)) (x_ev hz (by omega) ho hd ha hbb hv hI g hxr hs (fun nft => ?_) (fun yft => ?_))
    · refine br_t (zI_pos he.1 (by omega)) (And.intro (vp_in_nI (by omega) (by omega)) ?_)
      rw [nI_clamp (by omega), hd, nI_clamp (by omega)]
      refine And.intro (vp_in_nI (by omega) (by omega)) (nm_e (nm_r (nI_1 j) ?_))
      refine ih (j + 1) _ (by omega) (nj_s h (fun c => nft ((ft_i ho ha (by omega) v7).mp c))) ?_ n (by omega)
      rw [xs_s ho hd ha hbb (by omega) (by omega) v7 (by omega)]
      exact ag_u g rfl
    · exact br_f (by decide) (K2 j (by omega) h ((ft_i ho ha (by omega) v7).mpr yft) a)
theorem x_sf {post : Int32 → SX → Prop} {x : Nat → Int} {s : Nat} (hc : cx R Q M P L ops dst sa sb inp Ii) (hr : rn P R x) (hx : ag R rg x) (hs : s < 1000) (K1 : nj P R L ops dst sa sb Ii x s L → ∀ a', ag R a' (xs P R L ops dst sa sb Ii x s L) → post (-1) (nI R, nI Q, nI M, nI P, nI L, nI N, fl, sw, nI q, nI sc, nI sp, nI tp, ops, dst, sa, sb, inp, wt, dr, cur, a', tn, rx, ry, ad, ss, st, co, pl)) (K2 : ∀ j0, j0 < L → nj P R L ops dst sa sb Ii x s j0 → ft ops sa (xs P R L ops dst sa sb Ii x s j0) j0 → ∀ a', post (nI j0) (nI R, nI Q, nI M, nI P, nI L, nI N, fl, sw, nI q, nI sc, nI sp, nI tp, ops, dst, sa, sb, inp, wt, dr, cur, a', tn, rx, ry, ad, ss, st, co, pl)) : wpX_stepForward post (nI R, nI Q, nI M, nI P, nI L, nI N, fl, sw, nI q, nI sc, nI sp, nI tp, ops, dst, sa, sb, inp, wt, dr, cur, rg, tn, rx, ry, ad, ss, st, co, pl) (nI s) := by
  exact Exists.intro (L + 1) (x_sl hc hr hs K1 K2 L 0 rg (by omega) nj_0 hx (L + 1) (by omega))
theorem cx_x (hc : cx R Q M P L ops dst sa sb inp Ii) (s : Nat) : rn P R (XX P R L ops dst sa sb Ii s) := XX_rn hc.1 hc.2.1 hc.2.2.2 s
theorem x_al {post : SX → Prop} {e : Nat} (hc : cx R Q M P L ops dst sa sb inp Ii) (he : e ≤ 32) (hn : nf P R L ops dst sa sb Ii e) (K : ∀ a', ag R a' (XX P R L ops dst sa sb Ii e) → post (nI R, nI Q, nI M, nI P, nI L, nI N, fl, sw, nI q, nI sc, nI sp, nI tp, ops, dst, sa, sb, inp, wt, dr, cur, a', tn, rx, ry, ad, ss, st, co, pl)) : ∀ d c a, c + d = e → ag R a (XX P R L ops dst sa sb Ii c) → ∀ n, d < n → wX_advance_4 post (nI e) n (nI (c + 1)) (nI R) (nI Q) (nI M) (nI P) (nI L) (nI N) fl sw (nI q) (nI sc) (nI sp) (nI tp) ops dst sa sb inp wt dr cur a tn rx ry ad ss st co pl := by
  intro d
  induction d with
  | zero =>
    intro c a e1 g n hn
    obtain ⟨n, rfl, _⟩ := fu hn
    obtain rfl : c = e := by omega
    exact br_t (nI_lt (by omega) (by omega)) (K a g)
  | succ d ih =>
    intro c a e1 g n hn2
    obtain ⟨n, rfl, _⟩ := fu hn2
    refine br_f (nI_nlt (by omega) (by omega)) (x_sf hc (cx_x hc c) g (by omega) (fun _ a' g' => ?_) (fun j0 h1 h2 h3 => absurd h3 (hn c (by omega) j0 h1)))
    exact nm_r (nI_1 (c + 1)) (ih (c + 1) a' (by omega) g' n (by omega))
theorem x_adv {post : SX → Prop} {c e : Nat} (hc : cx R Q M P L ops dst sa sb inp Ii) (hce : c ≤ e) (he : e ≤ 32) (hn : nf P R L ops dst sa sb Ii e) (hx : ag R rg (XX P R L ops dst sa sb Ii c)) (K : ∀ a', ag R a' (XX P R L ops dst sa sb Ii e) → post (nI R, nI Q, nI M, nI P, nI L, nI N, fl, sw, nI q, nI sc, nI sp, nI tp, ops, dst, sa, sb, inp, wt, dr, cur, a', tn, rx, ry, ad, ss, st, co, pl)) : wpX_advance post (nI R, nI Q, nI M, nI P, nI L, nI N, fl, sw, nI q, nI sc, nI sp, nI tp, ops, dst, sa, sb, inp, wt, dr, cur, rg, tn, rx, ry, ad, ss, st, co, pl) (nI c) (nI e) := by
  exact nm_r (nI_1 c) (Exists.intro (e - c + 1) (x_al hc he hn K (e - c) c rg (by omega) hx (e - c + 1) (by omega)))
theorem x_val {post : Int32 → SX → Prop} {s i : Nat} (hc : cx R Q M P L ops dst sa sb inp Ii) (hN : N ≤ 32) (hs : s ≤ N) (hi : i < R) (hn : nf P R L ops dst sa sb Ii N) (hcur : ag R cur (XX P R L ops dst sa sb Ii N)) (K : ∀ a', post (zI (XX P R L ops dst sa sb Ii s i)) (nI R, nI Q, nI M, nI P, nI L, nI N, fl, sw, nI q, nI sc, nI sp, nI tp, ops, dst, sa, sb, inp, wt, dr, cur, a', tn, rx, ry, ad, ss, st, co, pl)) : wpX_value post (nI R, nI Q, nI M, nI P, nI L, nI N, fl, sw, nI q, nI sc, nI sp, nI tp, ops, dst, sa, sb, inp, wt, dr, cur, rg, tn, rx, ry, ad, ss, st, co, pl) (nI s) (nI i) := by
  have hR := hc.1.1.2
  refine br_f (nI_pos (by omega)) (br_t (nI_le hs (by omega)) (br_f (nI_pos (by omega)) (br_t (nI_lt hi (by omega)) (pk_eq s N (fun e => And.intro (vp_in_nI (by omega) (by omega)) ?_) (fun e => ?_)))))
  · subst e
    rw [nI_clamp (by omega), hcur i hi]
    exact K rg
  · refine x_load hR (fun a' g => x_adv (c := 0) hc (Nat.zero_le s) (by omega) (nf_m hn hs) (ag_cp g hc.2.2.1 (by omega)) (fun a2 g2 => And.intro (vp_in_nI (by omega) (by omega)) ?_))
    rw [nI_clamp (by omega), g2 i hi]
    exact K a2
/-- the dual run -/
theorem x_d41 {post : SX → Prop} {J : Int32 → (Nat → Int32) → (Nat → Int32) → (Nat → Int32) → (Nat → Int32) → (Nat → Int32) → (Nat → Int32) → (Nat → Int32) → (Nat → Int32) → (Nat → Int32) → (Nat → Int32) → (Nat → Int32) → (Nat → Int32) → (Nat → Int32) → (Nat → Int32) → (Nat → Int32) → (Nat → Int32) → (Nat → Int32) → Prop} {x t u : Nat → Int} {s : Nat} {l : Int32} (hc : cx R Q M P L ops dst sa sb inp Ii) (hr : rn P R x) (htr : rn P R t) (hur : rn P Q u) (hu : ∀ i, i < Q → dr (R + i) = zI (u i)) (hs : s < 1000) (hn : nj P R L ops dst sa sb Ii x s L) (K : ∀ a' b', ag R a' (xs P R L ops dst sa sb Ii x s L) → ag R b' (ts P R L ops dst sa sb Ii x s t u L) → J (nI (s + 1)) ops dst sa sb inp wt dr cur a' b' rx ry ad ss st co pl) : ∀ d j a b, j + d = L → ag R a (xs P R L ops dst sa sb Ii x s j) → ag R b (ts P R L ops dst sa sb Ii x s t u j) → ∀ n, d < n → wX_dualRun_41 post J l (nI s) (nI R) (nI Q) (nI M) (nI P) (nI L) (nI N) fl sw (nI q) (nI sc) (nI sp) (nI tp) n (nI j) ops dst sa sb inp wt dr cur a b rx ry ad ss st co pl := by
  intro d
  induction d with
  | zero =>
    intro j a b e g g' n hn
    obtain ⟨n, rfl, _⟩ := fu hn
    obtain rfl : j = L := by omega
    have := hc.1.2.2.2.2
    exact br_t (nI_le (Nat.le_refl _) (by omega)) (nm_r (nI_1 s) (K a b g g'))
  | succ d ih =>
    intro j a b e g g' n hn2
    obtain ⟨n, rfl, _⟩ := fu hn2
    obtain ⟨hz, hg, hI, hIr⟩ := hc
    have hL := hz.2.2.2.2
    have hR := hz.1.2
    have hb := pP_b hz.2.2.2.1
    obtain ⟨o, dd, aa, bb, ho, hd, ha, hbb, hv⟩ := hg j (by omega)
    have hxr := xs_rn hz hg hIr hr (s := s) j (by omega)
    have ht2 := ts_rn (x := x) (Ii := Ii) hz hg htr hur (s := s) j (by omega)
    have he := ev_rn (s := s) hz.2.2.2.1 hR hz.2.1.2 hv hxr hIr
    obtain ⟨v1, v2, v3, v4, v5, v6, v7⟩ := id hv
    refine br_f (nI_ge (by omega) (by omega)) (x_ev hz (by omega) ho hd ha hbb hv hI g hxr hs (fun nft => ?_) (fun yft => absurd ((ft_i ho ha (by omega) v7).mpr yft) (hn j (by omega))))
    refine x_tv hz (by omega) ho hd ha hbb hv g hxr g' ht2 hu he ?_
    refine And.intro (vp_in_nI (by omega) (by omega)) ?_
    rw [nI_clamp (by omega), hd, nI_clamp (by omega)]
    refine And.intro (vp_in_nI (by omega) (by omega)) (nm_e (And.intro (vp_in_nI (by omega) (by omega)) (And.intro (vp_in_nI (by omega) (by omega)) (nm_e (nm_r (nI_1 j) ?_)))))
    refine ih (j + 1) _ _ (by omega) ?_ ?_ n (by omega)
    · rw [xs_s ho hd ha hbb (by omega) (by omega) v7 (by omega)]
      exact ag_u g rfl
    · rw [ts_s ho hd ha hbb (by omega) (by omega) v7 (by omega)]
      exact ag_u g' rfl
theorem x_d34 {post : SX → Prop} {u Fi : Nat → Int} {e : Nat} (hc : cx R Q M P L ops dst sa sb inp Ii) (hur : rn P Q u) (hu : ∀ i, i < Q → dr (R + i) = zI (u i)) (he : e ≤ 32) (hn : nf P R L ops dst sa sb Ii e) (K : ∀ a' b', ag R b' Fi → post (nI R, nI Q, nI M, nI P, nI L, nI N, fl, sw, nI q, nI sc, nI sp, nI tp, ops, dst, sa, sb, inp, wt, dr, cur, a', b', rx, ry, ad, ss, st, co, pl)) : ∀ d c t a b, c + d = e → ag R a (XX P R L ops dst sa sb Ii c) → ag R b t → rn P R t → TT P R L ops dst sa sb Ii u d c t = Fi → ∀ n, d < n → wX_dualRun_34 post (nI e) (nI R) (nI Q) (nI M) (nI P) (nI L) (nI N) fl sw (nI q) (nI sc) (nI sp) (nI tp) n (nI (c + 1)) ops dst sa sb inp wt dr cur a b rx ry ad ss st co pl := by
  intro d
  induction d with
  | zero =>
    intro c t a b e1 g g' hr ef n hn
    obtain ⟨n, rfl, _⟩ := fu hn
    obtain rfl : c = e := by omega
    have ef : t = Fi := ef
    exact br_t (nI_lt (by omega) (by omega)) (K a b (ef ▸ g'))
  | succ d ih =>
    intro c t a b e1 g g' hr ef n hn2
    obtain ⟨n, rfl, _⟩ := fu hn2
    refine br_f (nI_nlt (by omega) (by omega)) (Exists.intro (L + 1) (x_d41 hc (cx_x hc c) hr hur hu (by omega) (hn c (by omega)) (fun a' b' k1 k2 => ?_) L 0 a b (by omega) g g' (L + 1) (by omega)))
    exact ih (c + 1) _ a' b' (by omega) k1 k2 (ts_rn hc.1 hc.2.1 hr hur L (Nat.le_refl L)) ef n (by omega)
theorem x_d6 {post : SX → Prop} {e : Nat} (hc : cx R Q M P L ops dst sa sb inp Ii) (hV : ag 10 dr Vi) (hVr : rn P 10 Vi) (he : e ≤ 32) (hn : nf P R L ops dst sa sb Ii e) (hx : ag R rg Ii) (K : ∀ a' b', ag R b' (TT P R L ops dst sa sb Ii (fun i => Vi (R + i)) e 0 Vi) → post (nI R, nI Q, nI M, nI P, nI L, nI N, fl, sw, nI q, nI sc, nI sp, nI tp, ops, dst, sa, sb, inp, wt, dr, cur, a', b', rx, ry, ad, ss, st, co, pl)) : ∀ d i c, i + d = R → cp i c dr → ∀ n, d < n → wX_dualRun_6 post (nI e) (nI R) (nI Q) (nI M) (nI P) (nI L) (nI N) fl sw (nI q) (nI sc) (nI sp) (nI tp) n (nI i) ops dst sa sb inp wt dr cur rg c rx ry ad ss st co pl := by
  have hR := hc.1.1.2
  have hQ := hc.1.2.1.2
  intro d
  induction d with
  | zero =>
    intro i c e1 h n hn2
    obtain ⟨n, rfl, _⟩ := fu hn2
    obtain rfl : i = R := by omega
    refine br_t (nI_le (Nat.le_refl _) (by omega)) (Exists.intro (e + 1) ?_)
    exact x_d34 hc (fun k hk => hVr (i + k) (by omega)) (fun k hk => hV (i + k) (by omega)) he hn K e 0 Vi rg c (by omega) hx (ag_cp h hV (by omega)) (rn_m hVr (by omega)) rfl (e + 1) (by omega)
  | succ d ih =>
    intro i c e h n hn
    obtain ⟨n, rfl, _⟩ := fu hn
    refine br_f (nI_ge (by omega) (by omega)) (And.intro (vp_in_nI (by omega) (by omega)) (And.intro (vp_in_nI (by omega) (by omega)) (nm_e (nm_r (nI_1 i) ?_))))
    rw [nI_clamp (by omega)]
    exact ih (i + 1) _ (by omega) (cp_u h rfl) n (by omega)
theorem x_dual {post : SX → Prop} {e : Nat} (hc : cx R Q M P L ops dst sa sb inp Ii) (hV : ag 10 dr Vi) (hVr : rn P 10 Vi) (he : e ≤ 32) (hn : nf P R L ops dst sa sb Ii e) (K : ∀ a' b', ag R b' (TT P R L ops dst sa sb Ii (fun i => Vi (R + i)) e 0 Vi) → post (nI R, nI Q, nI M, nI P, nI L, nI N, fl, sw, nI q, nI sc, nI sp, nI tp, ops, dst, sa, sb, inp, wt, dr, cur, a', b', rx, ry, ad, ss, st, co, pl)) : wpX_dualRun post (nI R, nI Q, nI M, nI P, nI L, nI N, fl, sw, nI q, nI sc, nI sp, nI tp, ops, dst, sa, sb, inp, wt, dr, cur, rg, tn, rx, ry, ad, ss, st, co, pl) (nI e) := by
  have hR := hc.1.1.2
  exact x_load hR (fun c' h => Exists.intro (R + 1) (x_d6 hc hV hVr he hn (ag_cp h hc.2.2.1 (by omega)) K R 0 tn (by omega) cp_0 (R + 1) (by omega)))
theorem x_tan {post : Int32 → SX → Prop} {s i : Nat} (hc : cx R Q M P L ops dst sa sb inp Ii) (hV : ag 10 dr Vi) (hVr : rn P 10 Vi) (hN : N ≤ 32) (hs : s ≤ N) (hi : i < R) (hn : nf P R L ops dst sa sb Ii N) (K : ∀ a' b', post (zI (TT P R L ops dst sa sb Ii (fun i => Vi (R + i)) s 0 Vi i)) (nI R, nI Q, nI M, nI P, nI L, nI N, fl, sw, nI q, nI sc, nI sp, nI tp, ops, dst, sa, sb, inp, wt, dr, cur, a', b', rx, ry, ad, ss, st, co, pl)) : wpX_tangent post (nI R, nI Q, nI M, nI P, nI L, nI N, fl, sw, nI q, nI sc, nI sp, nI tp, ops, dst, sa, sb, inp, wt, dr, cur, rg, tn, rx, ry, ad, ss, st, co, pl) (nI s) (nI i) := by
  have hR := hc.1.1.2
  refine br_f (nI_pos (by omega)) (br_t (nI_le hs (by omega)) (br_f (nI_pos (by omega)) (br_t (nI_lt hi (by omega)) (x_dual hc hV hVr (by omega) (nf_m hn hs) (fun a' b' g => And.intro (vp_in_nI (by omega) (by omega)) ?_)))))
  rw [nI_clamp (by omega), g i hi]
  exact K a' b'
end
end
section
/-! the reference: residue, inverse, play -/
section
variable {R Q M P L N q sc sp tp : Nat} {fl sw : Int32} {ops dst sa sb inp wt dr cur rg tn rx ry ad ss st co pl yr yt yu yb : Nat → Int32} {Ii Wi Vi : Nat → Int}
theorem y_mod {post : Int32 → Prop} {v : Int} (hP : pP P) (h1 : -2147483648 ≤ v) (h2 : v < 2147483648) (h : post (zI (v % P))) : wpY_mod post (nI R, nI Q, nI M, nI P, nI L, nI N, fl, sw, nI q, nI sc, ops, dst, sa, sb, inp, wt, dr, yr, yt, yu, yb) (zI v) := by
  have hb := pP_b hP
  refine And.intro (nI_ne0 (by omega) (by omega)) (nm_r (zr_tm (by omega) (by omega) (by omega)) ?_)
  have hr := zr_b v (P := P) (by omega)
  rcases zr_cs v (P := P) (by omega) with ⟨a, e⟩ | ⟨a, e⟩
  · refine br_t (zI_pos a (by omega)) ?_
    rw [e]; exact h
  · refine br_f (zI_npos a (by omega)) ?_
    rw [← zI_n, zI_add, e]; exact h
theorem y_iv {post : Int32 → Prop} {v : Nat} (hP : pP P) (h0 : 0 < v) (h1 : v < P) (K : post (nI (fm P v))) : ∀ d y, y + d = fm P v → 0 < y → ∀ n, d < n → wY_inverse_2 post (nI v) (nI R) (nI Q) (nI M) (nI P) (nI L) (nI N) fl sw (nI q) (nI sc) ops dst sa sb inp wt dr yr yt yu yb n (nI y) := by
  have hb := pP_b hP
  have ⟨f1, f2⟩ := fm_ok hP v h1
  have f1 := f1 h0
  have hp0 : ¬ nI P = 0 := nI_ne0 (by omega) (by omega)
  have rm : ∀ y : Nat, y < P → nI v * nI y - nI v * nI y / nI P * nI P = nI (v * y % P) := by
    intro y hy
    rw [pk_mul]
    refine pk_rem ?_ (by omega) (by omega)
    exact Nat.lt_of_le_of_lt (Nat.mul_le_mul (Nat.le_of_lt h1) (Nat.le_of_lt hy)) (Nat.lt_of_le_of_lt (Nat.mul_le_mul hb.2 hb.2) (by decide))
  intro d
  induction d with
  | zero =>
    intro y e hy n hn
    obtain ⟨n, rfl, _⟩ := fu hn
    obtain rfl : y = fm P v := by omega
    refine br_f (nI_ge f2 (by omega)) (And.intro hp0 (br_t ?_ K))
    rw [rm _ f2, f1]; rfl
  | succ d ih =>
    intro y e hy n hn
    obtain ⟨n, rfl, _⟩ := fu hn
    refine br_f (nI_ge (by omega) (by omega)) (And.intro hp0 (br_f ?_ (nm_r (nI_1 y) (ih (y + 1) (by omega) (by omega) n (by omega)))))
    rw [rm y (by omega)]
    intro c
    have c2 : v * y % P = 1 := (nI_eq (b := 1) (Nat.lt_trans (Nat.mod_lt _ (by omega)) (by omega)) (by omega)).mp c
    have := fm_un (by omega) f2 c2 f1
    omega
theorem y_inv {post : Int32 → Prop} {v : Int} (hP : pP P) (h0 : 0 < v) (h1 : v < P) (h : post (zI ((fm P v.toNat : Nat) : Int))) : wpY_inverse post (nI R, nI Q, nI M, nI P, nI L, nI N, fl, sw, nI q, nI sc, ops, dst, sa, sb, inp, wt, dr, yr, yt, yu, yb) (zI v) := by
  rw [zI_n] at h
  rw [zI_N (by omega)]
  have ⟨f1, f2⟩ := fm_ok hP v.toNat (by omega)
  have hf : 0 < fm P v.toNat := by
    refine Nat.pos_of_ne_zero (fun c => ?_)
    have := f1 (by omega)
    rw [c, Nat.mul_zero, Nat.zero_mod] at this
    omega
  exact Exists.intro (fm P v.toNat + 1) (y_iv hP (by omega) (by omega) h (fm P v.toNat - 1) 1 (by omega) (by omega) (fm P v.toNat + 1) (by omega))
theorem y_417 {post : Int32 → SY → Prop} {J2 J16 : Int32 → (Nat → Int32) → (Nat → Int32) → (Nat → Int32) → (Nat → Int32) → (Nat → Int32) → (Nat → Int32) → (Nat → Int32) → (Nat → Int32) → (Nat → Int32) → (Nat → Int32) → (Nat → Int32) → Prop} {l s v w : Int32} {j d : Nat} (hd : d < 6) (h : J16 (nI (j + 1)) ops dst sa sb inp wt dr (upd yr d v) (upd yt d w) yu yb) : wY_play_417 post J2 J16 l s (nI j) (nI d) v w (nI R) (nI Q) (nI M) (nI P) (nI L) (nI N) fl sw (nI q) (nI sc) ops dst sa sb inp wt dr yr yt yu yb := by
  have cd : (nI d).toNatClampNeg = d := nI_clamp (by omega)
  refine And.intro (vp_in_nI hd (by omega)) (nm_r (e' := upd yr d v) (by rw [cd]) (And.intro (vp_in_nI hd (by omega)) (nm_r (e' := upd yt d w) (by rw [cd]) (nm_r (nI_1 j) h))))
/-- one instruction of play -/
theorem y_in {post : Int32 → SY → Prop} {J2 : Int32 → (Nat → Int32) → (Nat → Int32) → (Nat → Int32) → (Nat → Int32) → (Nat → Int32) → (Nat → Int32) → (Nat → Int32) → (Nat → Int32) → (Nat → Int32) → (Nat → Int32) → (Nat → Int32) → Prop} {l : Int32} {x t u : Nat → Int} {s j o d a b n : Nat} (hz : sz R Q M P L) (hjL : j < L) (ho : ops j = nI o) (hd : dst j = nI d) (ha : sa j = nI a) (hb : sb j = nI b) (hv : pv P R Q o d a b) (hI : ag 10 inp Ii) (hx : ag R yr x) (hr : rn P R x) (hIr : rn P 10 Ii) (ht : ag R yt t) (htr : rn P R t) (hu : ag Q yu u) (hs : s < 1000) (h : ¬ (o = 7 ∧ x a = 0) → wY_play_16 post J2 l (nI s) (nI R) (nI Q) (nI M) (nI P) (nI L) (nI N) fl sw (nI q) (nI sc) n (nI (j + 1)) ops dst sa sb inp wt dr (upd yr d (zI (ev P R Ii x s o d a b))) (upd yt d (zI (tv P x t u (ev P R Ii x s o d a b) o d a b))) yu yb) (h' : (o = 7 ∧ x a = 0) → post (nI j) (nI R, nI Q, nI M, nI P, nI L, nI N, fl, sw, nI q, nI sc, ops, dst, sa, sb, inp, wt, dr, yr, yt, yu, yb)) : wY_play_16 post J2 l (nI s) (nI R) (nI Q) (nI M) (nI P) (nI L) (nI N) fl sw (nI q) (nI sc) (n + 1) (nI j) ops dst sa sb inp wt dr yr yt yu yb := by
  have hev := ev_rn (s := s) hz.2.2.2.1 hz.1.2 hz.2.1.2 hv hr hIr
  obtain ⟨hR, hQ, hM, hP, hL⟩ := hz
  obtain ⟨v1, v2, v3, v4, v5, v6, v7⟩ := hv
  have pb := pP_b hP
  have hj8 : vp_in (nI j) 8 := vp_in_nI (by omega) (by omega)
  have cj : (nI j).toNatClampNeg = j := nI_clamp (by omega)
  have ca : (nI a).toNatClampNeg = a := nI_clamp (by omega)
  have cb : (nI b).toNatClampNeg = b := nI_clamp (by omega)
  have cd : (nI d).toNatClampNeg = d := nI_clamp (by omega)
  have ib : vp_in (nI b) 6 := vp_in_nI (by omega) (by omega)
  have d6 : d < 6 := by omega
  have xb := hr b v6
  have tb := htr b v6
  refine br_f (nI_ge hjL (by omega)) (And.intro hj8 (nm_r (e' := nI o) (by rw [cj, ho]) (And.intro hj8 (nm_r (e' := nI a) (by rw [cj, ha]) (And.intro hj8 (nm_r (e' := nI b) (by rw [cj, hb]) (And.intro hj8 (nm_r (e' := nI d) (by rw [cj, hd]) ?_))))))))
  rcases op_c v1 with rfl | rfl | rfl | rfl | rfl | rfl | rfl | rfl | rfl
  · have h := h (by omega)
    refine br_t (by decide) (y_417 d6 ?_)
    rw [← zI_n a]; exact h
  · have h := h (by omega)
    have la := v4 rfl
    refine br_f (by decide) (br_t (by decide) ?_)
    rw [nI_add]
    refine And.intro (vp_in_nI (by omega) (by omega)) (nm_r (e' := zI (Ii (R + a))) (by rw [nI_clamp (by omega), hI _ (by omega)]) (And.intro (vp_in_nI (by omega) (by omega)) (nm_r (e' := zI (u a)) (by rw [ca, hu a la]) (y_417 d6 h))))
  · have h := h (by omega)
    refine br_f (by decide) (br_f (by decide) (br_t (by decide) ?_))
    rw [← zI_n s]
    refine y_mod hP (by omega) (by omega) ?_
    rw [zI_n s]
    exact y_417 d6 h
  · have h := h (by omega)
    have la := v5 (by omega)
    have ia : vp_in (nI a) 6 := vp_in_nI (by omega) (by omega)
    exact br_f (by decide) (br_f (by decide) (br_f (by decide) (br_t (by decide) (And.intro ia (nm_r (e' := zI (x a)) (by rw [ca, hx a la]) (And.intro ia (nm_r (e' := zI (t a)) (by rw [ca, ht a la]) (y_417 d6 h))))))))
  · have h := h (by omega)
    have la := v5 (by omega)
    have xa := hr a la
    have ta := htr a la
    have ia : vp_in (nI a) 6 := vp_in_nI (by omega) (by omega)
    refine br_f (by decide) (br_f (by decide) (br_f (by decide) (br_f (by decide) (br_t (by decide) (And.intro ia (And.intro ib ?_))))))
    rw [ca, cb, hx a la, hx b v6, ht a la, ht b v6, zI_add, zI_add]
    exact y_mod hP (by omega) (by omega) (And.intro ia (And.intro ib (y_mod hP (by omega) (by omega) (y_417 d6 h))))
  · have h := h (by omega)
    have la := v5 (by omega)
    have xa := hr a la
    have ta := htr a la
    have ia : vp_in (nI a) 6 := vp_in_nI (by omega) (by omega)
    refine br_f (by decide) (br_f (by decide) (br_f (by decide) (br_f (by decide) (br_f (by decide) (br_t (by decide) (And.intro ia (And.intro ib ?_)))))))
    rw [ca, cb, hx a la, hx b v6, ht a la, ht b v6, zI_sub, zI_sub]
    exact y_mod hP (by omega) (by omega) (And.intro ia (And.intro ib (y_mod hP (by omega) (by omega) (y_417 d6 h))))
  · have h := h (by omega)
    have la := v5 (by omega)
    have xa := hr a la
    have ta := htr a la
    have m0 := mu_b pb.2 xa xb
    have m1 := mu_b pb.2 ta xb
    have m2 := mu_b pb.2 xa tb
    have ia : vp_in (nI a) 6 := vp_in_nI (by omega) (by omega)
    refine br_f (by decide) (br_f (by decide) (br_f (by decide) (br_f (by decide) (br_f (by decide) (br_f (by decide) (br_t (by decide) (And.intro ia (And.intro ib ?_))))))))
    rw [ca, cb, hx a la, hx b v6, ht a la, ht b v6, zI_mul, zI_mul, zI_mul, zI_add]
    exact y_mod hP (by omega) (by omega) (And.intro ia (And.intro ib (And.intro ia (And.intro ib (y_mod hP (by omega) (by omega) (y_417 d6 h))))))
  · have la := v5 (by omega)
    have xa := hr a la
    have ta := htr a la
    have m3 := mu_b3 pb.2 hev hev ta
    have ia : vp_in (nI a) 6 := vp_in_nI (by omega) (by omega)
    refine br_f (by decide) (br_f (by decide) (br_f (by decide) (br_f (by decide) (br_f (by decide) (br_f (by decide) (br_f (by decide) (br_t (by decide) (And.intro ia ?_))))))))
    rw [ca, hx a la, ht a la]
    refine br_c (fun z => h' ⟨rfl, (zI_ze xa.1 (by omega)).mp z⟩) (fun z => ?_)
    have hz0 : x a ≠ 0 := fun c => z ((zI_ze xa.1 (by omega)).mpr c)
    have h := h (fun c => hz0 c.2)
    refine And.intro ia (y_inv hP (by omega) xa.2 (And.intro ia ?_))
    rw [zI_mul, zI_mul, zI_neg]
    exact y_mod hP (by have m3 : 0 ≤ ((fm P (x a).toNat : Nat) : Int) * ((fm P (x a).toNat : Nat) : Int) * t a ∧ ((fm P (x a).toNat : Nat) : Int) * ((fm P (x a).toNat : Nat) : Int) * t a ≤ 15625000 := m3
                       omega) (by have m3 : 0 ≤ ((fm P (x a).toNat : Nat) : Int) * ((fm P (x a).toNat : Nat) : Int) * t a ∧ ((fm P (x a).toNat : Nat) : Int) * ((fm P (x a).toNat : Nat) : Int) * t a ≤ 15625000 := m3
                                  omega) (y_417 d6 h)
  · have h := h (by omega)
    have la := v5 (by omega)
    have xd := hr d v2
    have ia : vp_in (nI a) 6 := vp_in_nI (by omega) (by omega)
    refine br_f (by decide) (br_f (by decide) (br_f (by decide) (br_f (by decide) (br_f (by decide) (br_f (by decide) (br_f (by decide) (br_f (by decide) (And.intro (vp_in_nI d6 (by omega)) ?_))))))))
    rw [cd, hx d v2]
    have h : wY_play_16 post J2 l (nI s) (nI R) (nI Q) (nI M) (nI P) (nI L) (nI N) fl sw (nI q) (nI sc) n (nI (j + 1)) ops dst sa sb inp wt dr (upd yr d (zI (if x d = 0 then x b else x a))) (upd yt d (zI (if x d = 0 then t b else t a))) yu yb := h
    by_cases c : x d = 0
    · rw [if_pos c, if_pos c] at h
      exact br_t ((zI_ze xd.1 (by omega)).mpr c) (And.intro ib (nm_r (e' := zI (x b)) (by rw [cb, hx b v6]) (And.intro ib (nm_r (e' := zI (t b)) (by rw [cb, ht b v6]) (y_417 d6 h)))))
    · rw [if_neg c, if_neg c] at h
      exact br_f (fun z => c ((zI_ze xd.1 (by omega)).mp z)) (And.intro ia (nm_r (e' := zI (x a)) (by rw [ca, hx a la]) (And.intro ia (nm_r (e' := zI (t a)) (by rw [ca, ht a la]) (y_417 d6 h)))))
theorem y_p16 {post : Int32 → SY → Prop} {J2 : Int32 → (Nat → Int32) → (Nat → Int32) → (Nat → Int32) → (Nat → Int32) → (Nat → Int32) → (Nat → Int32) → (Nat → Int32) → (Nat → Int32) → (Nat → Int32) → (Nat → Int32) → (Nat → Int32) → Prop} {l : Int32} {x t u : Nat → Int} {s : Nat} (hc : cx R Q M P L ops dst sa sb inp Ii) (hr : rn P R x) (htr : rn P R t) (hur : rn P Q u) (hu : ag Q yu u) (hs : s < 1000) (K1 : nj P R L ops dst sa sb Ii x s L → ∀ a' b', ag R a' (xs P R L ops dst sa sb Ii x s L) → ag R b' (ts P R L ops dst sa sb Ii x s t u L) → J2 (nI (s + 1)) ops dst sa sb inp wt dr a' b' yu yb) (K2 : ∀ j0, j0 < L → nj P R L ops dst sa sb Ii x s j0 → ft ops sa (xs P R L ops dst sa sb Ii x s j0) j0 → ∀ a' b', post (nI j0) (nI R, nI Q, nI M, nI P, nI L, nI N, fl, sw, nI q, nI sc, ops, dst, sa, sb, inp, wt, dr, a', b', yu, yb)) : ∀ d j a b, j + d = L → nj P R L ops dst sa sb Ii x s j → ag R a (xs P R L ops dst sa sb Ii x s j) → ag R b (ts P R L ops dst sa sb Ii x s t u j) → ∀ n, d < n → wY_play_16 post J2 l (nI s) (nI R) (nI Q) (nI M) (nI P) (nI L) (nI N) fl sw (nI q) (nI sc) n (nI j) ops dst sa sb inp wt dr a b yu yb := by
  intro d
  induction d with
  | zero =>
    intro j a b e h g g' n hn
    obtain ⟨n, rfl, _⟩ := fu hn
    obtain rfl : j = L := by omega
    have := hc.1.2.2.2.2
    exact br_t (nI_le (Nat.le_refl _) (by omega)) (nm_r (nI_1 s) (K1 h a b g g'))
  | succ d ih =>
    intro j a b e h g g' n hn2
    obtain ⟨n, rfl, _⟩ := fu hn2
    obtain ⟨hz, hg, hI, hIr⟩ := hc
    have hL := hz.2.2.2.2
    have hR := hz.1.2
    obtain ⟨o, dd, aa, bb, ho, hd, ha, hbb, hv⟩ := hg j (by omega)
    have hxr := xs_rn hz hg hIr hr (s := s) j (by omega)
    have ht2 := ts_rn (x := x) (Ii := Ii) hz hg htr hur (s := s) j (by omega)
    obtain ⟨v1, v2, v3, v4, v5, v6, v7⟩ := id hv
    refine y_in hz (by omega) ho hd ha hbb hv hI g hxr hIr g' ht2 hu hs (fun nft => ?_) (fun yft => K2 j (by omega) h ((ft_i ho ha (by omega) v7).mpr yft) a b)
    refine ih (j + 1) _ _ (by omega) (nj_s h (fun c => nft ((ft_i ho ha (by omega) v7).mp c))) ?_ ?_ n (by omega)
    · rw [xs_s ho hd ha hbb (by omega) (by omega) v7 (by omega)]
      exact ag_u g rfl
    · rw [ts_s ho hd ha hbb (by omega) (by omega) v7 (by omega)]
      exact ag_u g' rfl
/-- steps c+1 .. e of play; all but the last are without fault -/
theorem y_p2 {post : Int32 → SY → Prop} {u Fi : Nat → Int} {e : Nat} (hc : cx R Q M P L ops dst sa sb inp Ii) (hur : rn P Q u) (hu : ag Q yu u) (he : e ≤ 32) (hn : ∀ s, s + 1 < e → nj P R L ops dst sa sb Ii (XX P R L ops dst sa sb Ii s) (s + 1) L) (K1 : nf P R L ops dst sa sb Ii e → ∀ a' b', ag R a' (XX P R L ops dst sa sb Ii e) → ag R b' Fi → post (-1) (nI R, nI Q, nI M, nI P, nI L, nI N, fl, sw, nI q, nI sc, ops, dst, sa, sb, inp, wt, dr, a', b', yu, yb)) (K2 : ∀ s j0, e = s + 1 → j0 < L → nj P R L ops dst sa sb Ii (XX P R L ops dst sa sb Ii s) (s + 1) j0 → ft ops sa (xs P R L ops dst sa sb Ii (XX P R L ops dst sa sb Ii s) (s + 1) j0) j0 → ∀ a' b', post (nI j0) (nI R, nI Q, nI M, nI P, nI L, nI N, fl, sw, nI q, nI sc, ops, dst, sa, sb, inp, wt, dr, a', b', yu, yb)) : ∀ d c t a b, c + d = e → nf P R L ops dst sa sb Ii c → ag R a (XX P R L ops dst sa sb Ii c) → ag R b t → rn P R t → TT P R L ops dst sa sb Ii u d c t = Fi → ∀ n, d < n → wY_play_2 post (nI e) (nI R) (nI Q) (nI M) (nI P) (nI L) (nI N) fl sw (nI q) (nI sc) n (nI (c + 1)) ops dst sa sb inp wt dr a b yu yb := by
  intro d
  induction d with
  | zero =>
    intro c t a b e1 hf g g' hr ef n hn
    obtain ⟨n, rfl, _⟩ := fu hn
    obtain rfl : c = e := by omega
    have ef : t = Fi := ef
    exact br_t (nI_lt (by omega) (by omega)) (K1 hf a b g (ef ▸ g'))
  | succ d ih =>
    intro c t a b e1 hf g g' hr ef n hn2
    obtain ⟨n, rfl, _⟩ := fu hn2
    refine br_f (nI_nlt (by omega) (by omega)) (br_f (nI_nlt (a := 32) (by omega) (by omega)) (Exists.intro (L + 1) (y_p16 hc (cx_x hc c) hr hur hu (by omega) (fun h1 a' b' k1 k2 => ?_) (fun j0 z1 z2 z3 a' b' => ?_) L 0 a b (by omega) nj_0 g g' (L + 1) (by omega))))
    · exact ih (c + 1) _ a' b' (by omega) (nf_s hf h1) k1 k2 (ts_rn hc.1 hc.2.1 hr hur L (Nat.le_refl L)) ef n (by omega)
    · by_cases ce : c + 1 < e
      · exact absurd z3 (hn c ce j0 z1)
      · exact K2 c j0 (by omega) z1 z2 z3 a' b'
theorem y_play {post : Int32 → SY → Prop} {t u : Nat → Int} {c e : Nat} (hc : cx R Q M P L ops dst sa sb inp Ii) (hur : rn P Q u) (hu : ag Q yu u) (hce : c ≤ e) (he : e ≤ 32) (hn : nf P R L ops dst sa sb Ii e) (hx : ag R yr (XX P R L ops dst sa sb Ii c)) (ht : ag R yt t) (htr : rn P R t) (K1 : ∀ a' b', ag R a' (XX P R L ops dst sa sb Ii e) → ag R b' (TT P R L ops dst sa sb Ii u (e - c) c t) → post (-1) (nI R, nI Q, nI M, nI P, nI L, nI N, fl, sw, nI q, nI sc, ops, dst, sa, sb, inp, wt, dr, a', b', yu, yb)) : wpY_play post (nI R, nI Q, nI M, nI P, nI L, nI N, fl, sw, nI q, nI sc, ops, dst, sa, sb, inp, wt, dr, yr, yt, yu, yb) (nI (c + 1)) (nI e) := by
  exact Exists.intro (e - c + 1) (y_p2 hc hur hu he (fun s hs => hn s (by omega)) (fun _ => K1) (fun s j0 z0 z1 z2 z3 => absurd z3 (hn s (by omega) j0 z1)) (e - c) c t yr yt (by omega) (nf_m hn hce) hx ht htr rfl (e - c + 1) (by omega))
end
end
section
/-! the reference: load, value, tangent, sums; the component's sums -/
def z0 (n : Nat) (c : Nat → Int32) : Prop := ∀ k, k < n → c k = 0
theorem z0_u {n : Nat} {c : Nat → Int32} (h : z0 n c) : z0 (n + 1) (upd c n 0) := by
  intro k hk
  by_cases z : k = n
  · subst z; rw [pk_us]
  · rw [pk_un z]; exact h k (by omega)
theorem z0_ag {n m : Nat} {c : Nat → Int32} (h : z0 n c) (hm : m ≤ n) : ag m c (fun _ => 0) := fun k hk => (h k (by omega)).trans zI_0.symm
theorem rn_0 {P n : Nat} (hP : 0 < P) : rn P n (fun _ => 0) := fun _ _ => ⟨Int.le_refl 0, by show (0 : Int) < P; omega⟩
section
variable {R Q M P L N q sc sp tp : Nat} {fl sw : Int32} {ops dst sa sb inp wt dr cur rg tn rx ry ad ss st co pl yr yt yu yb : Nat → Int32} {Ii Wi Vi : Nat → Int}
theorem y_c23 {post : SY → Prop} (K : ∀ b', z0 4 b' → post (nI R, nI Q, nI M, nI P, nI L, nI N, fl, sw, nI q, nI sc, ops, dst, sa, sb, inp, wt, dr, yr, yt, b', yb)) : ∀ d i c, i + d = 4 → z0 i c → ∀ n, d < n → wY_clearTangents_23 post (nI R) (nI Q) (nI M) (nI P) (nI L) (nI N) fl sw (nI q) (nI sc) n (nI i) ops dst sa sb inp wt dr yr yt c yb := by
  intro d
  induction d with
  | zero =>
    intro i c e h n hn
    obtain ⟨n, rfl, _⟩ := fu hn
    obtain rfl : i = 4 := by omega
    exact br_t (nI_le (a := 4) (by omega) (by omega)) (K c h)
  | succ d ih =>
    intro i c e h n hn
    obtain ⟨n, rfl, _⟩ := fu hn
    refine br_f (nI_ge (b := 4) (by omega) (by omega)) (And.intro (vp_in_nI (by omega) (by omega)) (nm_e (nm_r (nI_1 i) ?_)))
    rw [nI_clamp (by omega)]
    exact ih (i + 1) _ (by omega) (z0_u h) n (by omega)
theorem y_c2 {post : SY → Prop} (K : ∀ a' b', z0 6 a' → z0 4 b' → post (nI R, nI Q, nI M, nI P, nI L, nI N, fl, sw, nI q, nI sc, ops, dst, sa, sb, inp, wt, dr, yr, a', b', yb)) : ∀ d i c, i + d = 6 → z0 i c → ∀ n, d < n → wY_clearTangents_2 post (nI R) (nI Q) (nI M) (nI P) (nI L) (nI N) fl sw (nI q) (nI sc) n (nI i) ops dst sa sb inp wt dr yr c yu yb := by
  intro d
  induction d with
  | zero =>
    intro i c e h n hn
    obtain ⟨n, rfl, _⟩ := fu hn
    obtain rfl : i = 6 := by omega
    exact br_t (nI_le (a := 6) (by omega) (by omega)) (Exists.intro 5 (y_c23 (fun b' hb => K c b' h hb) 4 0 yu rfl (fun k hk => absurd hk (Nat.not_lt_zero k)) 5 (by omega)))
  | succ d ih =>
    intro i c e h n hn
    obtain ⟨n, rfl, _⟩ := fu hn
    refine br_f (nI_ge (b := 6) (by omega) (by omega)) (And.intro (vp_in_nI (by omega) (by omega)) (nm_e (nm_r (nI_1 i) ?_)))
    rw [nI_clamp (by omega)]
    exact ih (i + 1) _ (by omega) (z0_u h) n (by omega)
theorem y_clr {post : SY → Prop} (K : ∀ a' b', z0 6 a' → z0 4 b' → post (nI R, nI Q, nI M, nI P, nI L, nI N, fl, sw, nI q, nI sc, ops, dst, sa, sb, inp, wt, dr, yr, a', b', yb)) : wpY_clearTangents post (nI R, nI Q, nI M, nI P, nI L, nI N, fl, sw, nI q, nI sc, ops, dst, sa, sb, inp, wt, dr, yr, yt, yu, yb) := by
  exact Exists.intro 7 (y_c2 K 6 0 yt rfl (fun k hk => absurd hk (Nat.not_lt_zero k)) 7 (by omega))
theorem y_ld {post : SY → Prop} (hR : R ≤ 6) (K : ∀ r' a' b', cp R r' inp → z0 6 a' → z0 4 b' → post (nI R, nI Q, nI M, nI P, nI L, nI N, fl, sw, nI q, nI sc, ops, dst, sa, sb, inp, wt, dr, r', a', b', yb)) : ∀ d i c, i + d = R → cp i c inp → ∀ n, d < n → wY_load_2 post (nI R) (nI Q) (nI M) (nI P) (nI L) (nI N) fl sw (nI q) (nI sc) n (nI i) ops dst sa sb inp wt dr c yt yu yb := by
  intro d
  induction d with
  | zero =>
    intro i c e h n hn
    obtain ⟨n, rfl, _⟩ := fu hn
    obtain rfl : i = R := by omega
    exact br_t (nI_le (Nat.le_refl _) (by omega)) (y_clr (fun a' b' k1 k2 => K c a' b' h k1 k2))
  | succ d ih =>
    intro i c e h n hn
    obtain ⟨n, rfl, _⟩ := fu hn
    refine br_f (nI_ge (by omega) (by omega)) (And.intro (vp_in_nI (by omega) (by omega)) (And.intro (vp_in_nI (by omega) (by omega)) (nm_e (nm_r (nI_1 i) ?_))))
    rw [nI_clamp (by omega)]
    exact ih (i + 1) _ (by omega) (cp_u h rfl) n (by omega)
theorem y_load {post : SY → Prop} (hR : R ≤ 6) (K : ∀ r' a' b', cp R r' inp → z0 6 a' → z0 4 b' → post (nI R, nI Q, nI M, nI P, nI L, nI N, fl, sw, nI q, nI sc, ops, dst, sa, sb, inp, wt, dr, r', a', b', yb)) : wpY_load post (nI R, nI Q, nI M, nI P, nI L, nI N, fl, sw, nI q, nI sc, ops, dst, sa, sb, inp, wt, dr, yr, yt, yu, yb) := by
  exact Exists.intro (R + 1) (y_ld hR K R 0 yr (by omega) cp_0 (R + 1) (by omega))
theorem y_reg {post : Int32 → Prop} {i : Nat} (hR : R ≤ 6) (hi : i < R) (h : post 1) : wpY_isReg post (nI R, nI Q, nI M, nI P, nI L, nI N, fl, sw, nI q, nI sc, ops, dst, sa, sb, inp, wt, dr, yr, yt, yu, yb) (nI i) := by
  exact br_f (nI_pos (by omega)) (br_f (nI_ge hi (by omega)) h)
theorem y_val {post : Int32 → SY → Prop} {s i : Nat} (hc : cx R Q M P L ops dst sa sb inp Ii) (hN : N ≤ 32) (hs : s ≤ N) (hi : i < R) (hn : nf P R L ops dst sa sb Ii N) (K : ∀ a' b' c', post (zI (XX P R L ops dst sa sb Ii s i)) (nI R, nI Q, nI M, nI P, nI L, nI N, fl, sw, nI q, nI sc, ops, dst, sa, sb, inp, wt, dr, a', b', c', yb)) : wpY_value post (nI R, nI Q, nI M, nI P, nI L, nI N, fl, sw, nI q, nI sc, ops, dst, sa, sb, inp, wt, dr, yr, yt, yu, yb) (nI s) (nI i) := by
  have hR := hc.1.1.2
  have hQ := hc.1.2.1.2
  have hp := pP_b hc.1.2.2.2.1
  refine br_f (nI_pos (by omega)) (br_t (nI_le hs (by omega)) (y_reg hR hi (br_f (by decide) (y_load hR (fun r' a' b' g1 g2 g3 => ?_)))))
  refine y_play (c := 0) hc (rn_0 (by omega)) (z0_ag g3 hQ) (Nat.zero_le s) (by omega) (nf_m hn hs) (ag_cp g1 hc.2.2.1 (by omega)) (z0_ag g2 hR) (rn_0 (by omega)) (fun a2 b2 k1 k2 => And.intro (vp_in_nI (by omega) (by omega)) ?_)
  rw [nI_clamp (by omega), k1 i hi]
  exact K a2 b2 b'
theorem y_t60 {post : Int32 → SY → Prop} {s i : Nat} {t : Nat → Int} (hc : cx R Q M P L ops dst sa sb inp Ii) (hV : ag 10 dr Vi) (hVr : rn P 10 Vi) (hs : s ≤ 32) (hi : i < R) (hn : nf P R L ops dst sa sb Ii s) (hx : ag R yr Ii) (ht : ag R yt t) (htr : rn P R t) (K : ∀ a' b' c', post (zI (TT P R L ops dst sa sb Ii (fun i => Vi (R + i)) s 0 t i)) (nI R, nI Q, nI M, nI P, nI L, nI N, fl, sw, nI q, nI sc, ops, dst, sa, sb, inp, wt, dr, a', b', c', yb)) : ∀ d k c, k + d = Q → cp k c (fun k => dr (R + k)) → ∀ n, d < n → wY_tangent_60 post (nI s) (nI i) (nI R) (nI Q) (nI M) (nI P) (nI L) (nI N) fl sw (nI q) (nI sc) n (nI k) ops dst sa sb inp wt dr yr yt c yb := by
  have hR := hc.1.1.2
  have hQ := hc.1.2.1.2
  intro d
  induction d with
  | zero =>
    intro k c e h n hn2
    obtain ⟨n, rfl, _⟩ := fu hn2
    obtain rfl : k = Q := by omega
    refine br_t (nI_le (Nat.le_refl _) (by omega)) (y_play (c := 0) (t := t) (u := fun i => Vi (R + i)) hc (fun j hj => hVr (R + j) (by omega)) (fun j hj => (h j hj).trans (hV (R + j) (by omega))) (Nat.zero_le s) hs hn hx ht htr (fun a2 b2 k1 k2 => And.intro (vp_in_nI (by omega) (by omega)) ?_))
    rw [nI_clamp (by omega), k2 i hi]
    exact K a2 b2 c
  | succ d ih =>
    intro k c e h n hn
    obtain ⟨n, rfl, _⟩ := fu hn
    refine br_f (nI_ge (by omega) (by omega)) ?_
    rw [nI_add]
    refine And.intro (vp_in_nI (by omega) (by omega)) (And.intro (vp_in_nI (by omega) (by omega)) (nm_e (nm_r (nI_1 k) ?_)))
    rw [nI_clamp (by omega), nI_clamp (by omega)]
    exact ih (k + 1) _ (by omega) (cp_u h rfl) n (by omega)
theorem y_t32 {post : Int32 → SY → Prop} {s i : Nat} (hc : cx R Q M P L ops dst sa sb inp Ii) (hV : ag 10 dr Vi) (hVr : rn P 10 Vi) (hs : s ≤ 32) (hi : i < R) (hn : nf P R L ops dst sa sb Ii s) (hx : ag R yr Ii) (K : ∀ a' b' c', post (zI (TT P R L ops dst sa sb Ii (fun i => Vi (R + i)) s 0 Vi i)) (nI R, nI Q, nI M, nI P, nI L, nI N, fl, sw, nI q, nI sc, ops, dst, sa, sb, inp, wt, dr, a', b', c', yb)) : ∀ d k c, k + d = R → cp k c dr → ∀ n, d < n → wY_tangent_32 post (nI s) (nI i) (nI R) (nI Q) (nI M) (nI P) (nI L) (nI N) fl sw (nI q) (nI sc) n (nI k) ops dst sa sb inp wt dr yr c yu yb := by
  have hR := hc.1.1.2
  intro d
  induction d with
  | zero =>
    intro k c e h n hn2
    obtain ⟨n, rfl, _⟩ := fu hn2
    obtain rfl : k = R := by omega
    exact br_t (nI_le (Nat.le_refl _) (by omega)) (Exists.intro (Q + 1) (y_t60 hc hV hVr hs hi hn hx (ag_cp h hV (by omega)) (rn_m hVr (by omega)) K Q 0 yu (by omega) cp_0 (Q + 1) (by omega)))
  | succ d ih =>
    intro k c e h n hn
    obtain ⟨n, rfl, _⟩ := fu hn
    refine br_f (nI_ge (by omega) (by omega)) (And.intro (vp_in_nI (by omega) (by omega)) (And.intro (vp_in_nI (by omega) (by omega)) (nm_e (nm_r (nI_1 k) ?_))))
    rw [nI_clamp (by omega)]
    exact ih (k + 1) _ (by omega) (cp_u h rfl) n (by omega)
theorem y_tan {post : Int32 → SY → Prop} {s i : Nat} (hc : cx R Q M P L ops dst sa sb inp Ii) (hV : ag 10 dr Vi) (hVr : rn P 10 Vi) (hN : N ≤ 32) (hs : s ≤ N) (hi : i < R) (hn : nf P R L ops dst sa sb Ii N) (K : ∀ a' b' c', post (zI (TT P R L ops dst sa sb Ii (fun i => Vi (R + i)) s 0 Vi i)) (nI R, nI Q, nI M, nI P, nI L, nI N, fl, sw, nI q, nI sc, ops, dst, sa, sb, inp, wt, dr, a', b', c', yb)) : wpY_tangent post (nI R, nI Q, nI M, nI P, nI L, nI N, fl, sw, nI q, nI sc, ops, dst, sa, sb, inp, wt, dr, yr, yt, yu, yb) (nI s) (nI i) := by
  have hR := hc.1.1.2
  refine br_f (nI_pos (by omega)) (br_t (nI_le hs (by omega)) (y_reg hR hi (br_f (by decide) (y_load hR (fun r' a' b' g1 g2 g3 => ?_)))))
  exact Exists.intro (R + 1) (y_t32 hc hV hVr (by omega) hi (nf_m hn hs) (ag_cp g1 hc.2.2.1 (by omega)) K R 0 a' (by omega) cp_0 (R + 1) (by omega))
/-- weighted sums -/
theorem sm_b {f : Nat → Int} : ∀ n : Nat, (∀ i, i < n → 0 ≤ f i ∧ f i ≤ 62500) → 0 ≤ sm n f ∧ sm n f ≤ 62500 * n := by
  intro n
  induction n with
  | zero => intro _; rw [sm]; omega
  | succ n ih =>
    intro h
    have h1 := ih (fun i hi => h i (by omega))
    have h2 := h n (by omega)
    rw [sm]; omega
theorem wx_b {x : Nat → Int} (hP : pP P) (hW : rn P 6 Wi) (hR : R ≤ 6) (hx : rn P R x) : ∀ i, i < R → 0 ≤ Wi i * x i ∧ Wi i * x i ≤ 62500 := fun i hi => mu_b (pP_b hP).2 (hW i (by omega)) (hx i hi)
theorem x_ob {post : Int32 → Prop} {x : Nat → Int} (hP : pP P) (hR : R ≤ 6) (hW : ag 6 wt Wi) (hWr : rn P 6 Wi) (hx : ag R cur x) (hr : rn P R x) (K : post (zI (sm R (fun k => Wi k * x k) % P))) : ∀ d i, i + d = R → ∀ n, d < n → wX_objective_4 post (nI R) (nI Q) (nI M) (nI P) (nI L) (nI N) fl sw (nI q) (nI sc) (nI sp) (nI tp) ops dst sa sb inp wt dr cur rg tn rx ry ad ss st co pl n (zI (sm i (fun k => Wi k * x k))) (nI i) := by
  have hb := pP_b hP
  intro d
  induction d with
  | zero =>
    intro i e n hn
    obtain ⟨n, rfl, _⟩ := fu hn
    obtain rfl : i = R := by omega
    have hs := sm_b i (wx_b hP hWr hR hr)
    refine br_t (nI_le (Nat.le_refl _) (by omega)) (And.intro (nI_ne0 (by omega) (by omega)) ?_)
    rw [zr_nn hs.1 (by omega) (by omega)]
    exact K
  | succ d ih =>
    intro i e n hn
    obtain ⟨n, rfl, _⟩ := fu hn
    refine br_f (nI_ge (by omega) (by omega)) (And.intro (vp_in_nI (by omega) (by omega)) (And.intro (vp_in_nI (by omega) (by omega)) (nm_r (e' := zI (sm (i + 1) (fun k => Wi k * x k))) ?_ (nm_r (nI_1 i) (ih (i + 1) (by omega) n (by omega))))))
    rw [nI_clamp (by omega), hW i (by omega), hx i (by omega), zI_mul, zI_add, sm]
theorem x_di {post : Int32 → SX → Prop} {x : Nat → Int} (hP : pP P) (hR : R ≤ 6) (hW : ag 6 wt Wi) (hWr : rn P 6 Wi) (hx : ag R tn x) (hr : rn P R x) (K : post (zI (sm R (fun k => Wi k * x k) % P)) (nI R, nI Q, nI M, nI P, nI L, nI N, fl, sw, nI q, nI sc, nI sp, nI tp, ops, dst, sa, sb, inp, wt, dr, cur, rg, tn, rx, ry, ad, ss, st, co, pl)) : ∀ d i, i + d = R → ∀ n, d < n → wX_directional_12 post (nI R) (nI Q) (nI M) (nI P) (nI L) (nI N) fl sw (nI q) (nI sc) (nI sp) (nI tp) ops dst sa sb inp wt dr cur rg tn rx ry ad ss st co pl n (zI (sm i (fun k => Wi k * x k))) (nI i) := by
  have hb := pP_b hP
  intro d
  induction d with
  | zero =>
    intro i e n hn
    obtain ⟨n, rfl, _⟩ := fu hn
    obtain rfl : i = R := by omega
    have hs := sm_b i (wx_b hP hWr hR hr)
    refine br_t (nI_le (Nat.le_refl _) (by omega)) (And.intro (nI_ne0 (by omega) (by omega)) ?_)
    rw [zr_nn hs.1 (by omega) (by omega)]
    exact K
  | succ d ih =>
    intro i e n hn
    obtain ⟨n, rfl, _⟩ := fu hn
    refine br_f (nI_ge (by omega) (by omega)) (And.intro (vp_in_nI (by omega) (by omega)) (And.intro (vp_in_nI (by omega) (by omega)) (nm_r (e' := zI (sm (i + 1) (fun k => Wi k * x k))) ?_ (nm_r (nI_1 i) (ih (i + 1) (by omega) n (by omega))))))
    rw [nI_clamp (by omega), hW i (by omega), hx i (by omega), zI_mul, zI_add, sm]
theorem y_ob {post : Int32 → SY → Prop} (hc : cx R Q M P L ops dst sa sb inp Ii) (hW : ag 6 wt Wi) (hWr : rn P 6 Wi) (hN : N ≤ 32) (hn : nf P R L ops dst sa sb Ii N) (K : ∀ a' b' c', post (zI (sm R (fun k => Wi k * XX P R L ops dst sa sb Ii N k) % P)) (nI R, nI Q, nI M, nI P, nI L, nI N, fl, sw, nI q, nI sc, ops, dst, sa, sb, inp, wt, dr, a', b', c', yb)) : ∀ d i a b c, i + d = R → ∀ n, d < n → wY_objective_4 post n (zI (sm i (fun k => Wi k * XX P R L ops dst sa sb Ii N k) % P)) (nI i) (nI R) (nI Q) (nI M) (nI P) (nI L) (nI N) fl sw (nI q) (nI sc) ops dst sa sb inp wt dr a b c yb := by
  have hR := hc.1.1.2
  have hP := hc.1.2.2.2.1
  have hb := pP_b hP
  intro d
  induction d with
  | zero =>
    intro i a b c e n hn
    obtain ⟨n, rfl, _⟩ := fu hn
    obtain rfl : i = R := by omega
    exact br_t (nI_le (Nat.le_refl _) (by omega)) (K a b c)
  | succ d ih =>
    intro i a b c e n hn2
    obtain ⟨n, rfl, _⟩ := fu hn2
    refine br_f (nI_ge (by omega) (by omega)) (y_val hc hN (Nat.le_refl N) (by omega) hn (fun a' b' c' => And.intro (vp_in_nI (by omega) (by omega)) ?_))
    have hm := wx_b hP hWr hR (cx_x hc N) i (by omega)
    have hs := zr_b (sm i (fun k => Wi k * XX P R L ops dst sa sb Ii N k)) (P := P) (by omega)
    rw [nI_clamp (by omega), hW i (by omega), zI_mul, zI_add]
    refine y_mod hP (by omega) (by omega) (nm_r (nI_1 i) ?_)
    rw [Int.emod_add_emod]
    exact ih (i + 1) a' b' c' (by omega) n (by omega)
theorem TT_rn (hz : sz R Q M P L) (hg : pg P R Q L ops dst sa sb) {u : Nat → Int} (hu : rn P Q u) : ∀ k q t, rn P R t → rn P R (TT P R L ops dst sa sb Ii u k q t) := by
  intro k
  induction k with
  | zero => intro q t h; exact h
  | succ k ih => intro q t h; exact ih (q + 1) _ (ts_rn hz hg h hu L (Nat.le_refl L))
theorem y_di {post : Int32 → SY → Prop} (hc : cx R Q M P L ops dst sa sb inp Ii) (hW : ag 6 wt Wi) (hWr : rn P 6 Wi) (hV : ag 10 dr Vi) (hVr : rn P 10 Vi) (hN : N ≤ 32) (hn : nf P R L ops dst sa sb Ii N) (K : ∀ a' b' c', post (zI (sm R (fun k => Wi k * TT P R L ops dst sa sb Ii (fun i => Vi (R + i)) N 0 Vi k) % P)) (nI R, nI Q, nI M, nI P, nI L, nI N, fl, sw, nI q, nI sc, ops, dst, sa, sb, inp, wt, dr, a', b', c', yb)) : ∀ d i a b c, i + d = R → ∀ n, d < n → wY_directional_4 post n (zI (sm i (fun k => Wi k * TT P R L ops dst sa sb Ii (fun i => Vi (R + i)) N 0 Vi k) % P)) (nI i) (nI R) (nI Q) (nI M) (nI P) (nI L) (nI N) fl sw (nI q) (nI sc) ops dst sa sb inp wt dr a b c yb := by
  have hR := hc.1.1.2
  have hQ := hc.1.2.1.2
  have hP := hc.1.2.2.2.1
  have hb := pP_b hP
  intro d
  induction d with
  | zero =>
    intro i a b c e n hn
    obtain ⟨n, rfl, _⟩ := fu hn
    obtain rfl : i = R := by omega
    exact br_t (nI_le (Nat.le_refl _) (by omega)) (K a b c)
  | succ d ih =>
    intro i a b c e n hn2
    obtain ⟨n, rfl, _⟩ := fu hn2
    refine br_f (nI_ge (by omega) (by omega)) (y_tan hc hV hVr hN (Nat.le_refl N) (by omega) hn (fun a' b' c' => And.intro (vp_in_nI (by omega) (by omega)) ?_))
    have hm := wx_b hP hWr hR (TT_rn (Ii := Ii) hc.1 hc.2.1 (u := fun i => Vi (R + i)) (fun j hj => hVr (R + j) (by omega)) N 0 Vi (rn_m hVr (by omega))) i (by omega)
    have hs := zr_b (sm i (fun k => Wi k * TT P R L ops dst sa sb Ii (fun i => Vi (R + i)) N 0 Vi k)) (P := P) (by omega)
    rw [nI_clamp (by omega), hW i (by omega), zI_mul, zI_add]
    refine y_mod hP (by omega) (by omega) (nm_r (nI_1 i) ?_)
    rw [Int.emod_add_emod]
    exact ih (i + 1) a' b' c' (by omega) n (by omega)
theorem y_g97 {post : Int32 → SY → Prop} {x : Nat → Int} (hP : pP P) (hR : R ≤ 6) (hW : ag 6 wt Wi) (hWr : rn P 6 Wi) (hx : ag R yt x) (hr : rn P R x) (K : post (zI (sm R (fun k => Wi k * x k) % P)) (nI R, nI Q, nI M, nI P, nI L, nI N, fl, sw, nI q, nI sc, ops, dst, sa, sb, inp, wt, dr, yr, yt, yu, yb)) : ∀ d i, i + d = R → ∀ n, d < n → wY_gradient_97 post (nI R) (nI Q) (nI M) (nI P) (nI L) (nI N) fl sw (nI q) (nI sc) ops dst sa sb inp wt dr yr yt yu yb n (zI (sm i (fun k => Wi k * x k) % P)) (nI i) := by
  have hb := pP_b hP
  intro d
  induction d with
  | zero =>
    intro i e n hn
    obtain ⟨n, rfl, _⟩ := fu hn
    obtain rfl : i = R := by omega
    exact br_t (nI_le (Nat.le_refl _) (by omega)) K
  | succ d ih =>
    intro i e n hn
    obtain ⟨n, rfl, _⟩ := fu hn
    have hm := wx_b hP hWr hR hr i (by omega)
    have hs := zr_b (sm i (fun k => Wi k * x k)) (P := P) (by omega)
    refine br_f (nI_ge (by omega) (by omega)) (And.intro (vp_in_nI (by omega) (by omega)) (And.intro (vp_in_nI (by omega) (by omega)) ?_))
    rw [nI_clamp (by omega), hW i (by omega), hx i (by omega), zI_mul, zI_add]
    refine y_mod hP (by omega) (by omega) (nm_r (nI_1 i) ?_)
    rw [Int.emod_add_emod]
    exact ih (i + 1) (by omega) n (by omega)
/-- the run: how many steps are completed, and the fault -/
def ro (P R L : Nat) (ops dst sa sb : Nat → Int32) (Ii : Nat → Int) (N d m : Nat) (f : Int32) : Prop := m ≤ d ∧ nf P R L ops dst sa sb Ii (N + m) ∧ ((m = d ∧ f = -1) ∨ (m < d ∧ ∃ j0, j0 < L ∧ nj P R L ops dst sa sb Ii (XX P R L ops dst sa sb Ii (N + m)) (N + m + 1) j0 ∧ ft ops sa (xs P R L ops dst sa sb Ii (XX P R L ops dst sa sb Ii (N + m)) (N + m + 1) j0) j0 ∧ f = nI j0))
theorem ro_ex : ∀ d N, nf P R L ops dst sa sb Ii N → ∃ m f, ro P R L ops dst sa sb Ii N d m f := by
  intro d
  induction d with
  | zero => intro N h; exact ⟨0, -1, Nat.le_refl 0, h, Or.inl ⟨rfl, rfl⟩⟩
  | succ d ih =>
    intro N h
    rcases nj_d (P := P) (R := R) (L := L) (ops := ops) (dst := dst) (sa := sa) (sb := sb) (Ii := Ii) (XX P R L ops dst sa sb Ii N) (N + 1) L with g | ⟨j, hj, g1, g2⟩
    · obtain ⟨m, f, e1, e2, e3⟩ := ih (N + 1) (nf_s h g)
      have e4 : N + 1 + m = N + (m + 1) := by omega
      rw [e4] at e2 e3
      refine ⟨m + 1, f, by omega, e2, ?_⟩
      rcases e3 with ⟨a, b⟩ | ⟨a, b⟩
      · exact Or.inl ⟨by omega, b⟩
      · exact Or.inr ⟨by omega, b⟩
    · exact ⟨0, nI j, by omega, h, Or.inr ⟨by omega, j, hj, g1, g2, rfl⟩⟩
theorem ro_s {d m : Nat} {f : Int32} (h : ro P R L ops dst sa sb Ii N d (m + 1) f) : ∃ e, d = e + 1 ∧ nj P R L ops dst sa sb Ii (XX P R L ops dst sa sb Ii N) (N + 1) L ∧ ro P R L ops dst sa sb Ii (N + 1) e m f := by
  obtain ⟨h1, h2, h3⟩ := h
  refine ⟨d - 1, by omega, h2 N (by omega), by omega, ?_⟩
  have e4 : N + 1 + m = N + (m + 1) := by omega
  rw [e4]
  refine ⟨h2, ?_⟩
  rcases h3 with ⟨a, b⟩ | ⟨a, b⟩
  · exact Or.inl ⟨by omega, b⟩
  · exact Or.inr ⟨by omega, b⟩
theorem x_r120 {post : Int32 → SX → Prop} {J : Int32 → Int32 → Int32 → Int32 → Int32 → Int32 → Int32 → Int32 → Int32 → Int32 → Int32 → Int32 → Int32 → Int32 → (Nat → Int32) → (Nat → Int32) → (Nat → Int32) → (Nat → Int32) → (Nat → Int32) → (Nat → Int32) → (Nat → Int32) → (Nat → Int32) → (Nat → Int32) → (Nat → Int32) → (Nat → Int32) → (Nat → Int32) → (Nat → Int32) → (Nat → Int32) → (Nat → Int32) → (Nat → Int32) → (Nat → Int32) → Prop} {l x2 : Int32} {t : Nat} (hR : R ≤ 6) (K : ∀ c', cp R c' rg → J x2 (nI (t + 1)) (nI R) (nI Q) (nI M) (nI P) (nI L) (nI N) fl sw (nI q) (nI sc) (nI sp) (nI tp) ops dst sa sb inp wt dr c' rg tn rx ry ad ss st co pl) : ∀ d i c, i + d = R → cp i c rg → ∀ n, d < n → wX_run_120 post J l x2 (nI t) (nI R) (nI Q) (nI M) (nI P) (nI L) (nI N) fl sw (nI q) (nI sc) (nI sp) (nI tp) n (nI i) ops dst sa sb inp wt dr c rg tn rx ry ad ss st co pl := by
  intro d
  induction d with
  | zero =>
    intro i c e h n hn
    obtain ⟨n, rfl, _⟩ := fu hn
    obtain rfl : i = R := by omega
    exact br_t (nI_le (Nat.le_refl _) (by omega)) (nm_r (nI_1 t) (K c h))
  | succ d ih =>
    intro i c e h n hn
    obtain ⟨n, rfl, _⟩ := fu hn
    refine br_f (nI_ge (by omega) (by omega)) (And.intro (vp_in_nI (by omega) (by omega)) (And.intro (vp_in_nI (by omega) (by omega)) (nm_e (nm_r (nI_1 i) ?_))))
    rw [nI_clamp (by omega)]
    exact ih (i + 1) _ (by omega) (cp_u h rfl) n (by omega)
theorem x_r66 {post : Int32 → SX → Prop} {n1 : Nat} {f : Int32} (hc : cx R Q M P L ops dst sa sb inp Ii) : ∀ m N t d cur rg, ro P R L ops dst sa sb Ii N d m f → N + d ≤ 32 → t + d = n1 → n1 ≤ 32 → ag R cur (XX P R L ops dst sa sb Ii N) → ag R rg (XX P R L ops dst sa sb Ii N) → (∀ c' r', ag R c' (XX P R L ops dst sa sb Ii (N + m)) → post (nI (t + m)) (nI R, nI Q, nI M, nI P, nI L, nI (N + m), f, sw, nI q, nI sc, nI sp, nI tp, ops, dst, sa, sb, inp, wt, dr, c', r', tn, rx, ry, ad, ss, st, co, pl)) → ∀ n, d + 1 < n → wX_run_66 post (nI n1) n (nI t) (nI t) (nI R) (nI Q) (nI M) (nI P) (nI L) (nI N) (-1) sw (nI q) (nI sc) (nI sp) (nI tp) ops dst sa sb inp wt dr cur rg tn rx ry ad ss st co pl := by
  intro m
  induction m with
  | zero =>
    intro N t d cur rg hro hb ht hn1 hcur hrg K n hn
    obtain ⟨n, rfl, _⟩ := fu hn
    obtain ⟨h1, h2, h3⟩ := hro
    rcases h3 with ⟨rfl, rfl⟩ | ⟨h3, j0, g1, g2, g3, rfl⟩
    · exact br_t (nI_le (by omega) (by omega)) (K cur rg hcur)
    · refine br_f (nI_ge (by omega) (by omega)) (br_f (by decide) ?_)
      rw [nI_1 N]
      refine x_sf hc (cx_x hc N) hrg (by omega) (fun c => absurd g3 (c j0 g1)) (fun j1 z1 z2 z3 a' => ?_)
      have hL := hc.1.2.2.2.2
      have ej : j1 = j0 := by
        rcases Nat.lt_trichotomy j1 j0 with c | c | c
        · exact absurd z3 (g2 j1 c)
        · exact c
        · exact absurd g3 (z2 j0 c)
      subst ej
      refine br_f (nI_pos (by omega)) (nm_r (nI_1 t) ?_)
      obtain ⟨n, rfl, _⟩ := fu (d := 0) (n := n) (by omega)
      by_cases c : n1 ≤ t + 1
      · exact br_t (nI_le c (by omega)) (K cur a' hcur)
      · exact br_f (nI_ge (by omega) (by omega)) (br_t (nI_pos' (by omega)) (K cur a' hcur))
  | succ m ih =>
    intro N t d cur rg hro hb ht hn1 hcur hrg K n hn
    obtain ⟨n, rfl, _⟩ := fu hn
    obtain ⟨e, rfl, hnj, hro'⟩ := ro_s hro
    refine br_f (nI_ge (by omega) (by omega)) (br_f (by decide) ?_)
    rw [nI_1 N]
    refine x_sf hc (cx_x hc N) hrg (by omega) (fun _ a' g => ?_) (fun j1 z1 z2 z3 a' => absurd z3 (hnj j1 z1))
    refine br_t (by decide) (nm_r (nI_1 N) (nm_r (nI_1 t) (Exists.intro (R + 1) ?_)))
    refine x_r120 (N := N + 1) (fl := -1) (rg := a') hc.1.1.2 (fun c' g' => ?_) R 0 cur (by omega) cp_0 (R + 1) (by omega)
    refine ih (N + 1) (t + 1) e c' a' hro' (by omega) (by omega) hn1 (ag_cp g' g (Nat.le_refl R)) g (fun c2 r2 k => ?_) n (by omega)
    have e1 : N + 1 + m = N + (m + 1) := by omega
    have e2 : t + 1 + m = t + (m + 1) := by omega
    rw [e1] at k
    rw [e1, e2]
    exact K c2 r2 k
theorem x_r36 {post : Int32 → SX → Prop} {n1 m : Nat} {f : Int32} (hc : cx R Q M P L ops dst sa sb inp Ii) (hro : ro P R L ops dst sa sb Ii N n1 m f) (hb : N + n1 ≤ 32) (hcur : ag R cur (XX P R L ops dst sa sb Ii N)) (K : ∀ c' r', ag R c' (XX P R L ops dst sa sb Ii (N + m)) → post (nI m) (nI R, nI Q, nI M, nI P, nI L, nI (N + m), f, sw, nI q, nI sc, nI sp, nI tp, ops, dst, sa, sb, inp, wt, dr, c', r', tn, rx, ry, ad, ss, st, co, pl)) : ∀ d i c, i + d = R → cp i c cur → ∀ n, d < n → wX_run_36 post (nI n1) (nI R) (nI Q) (nI M) (nI P) (nI L) (nI N) (-1) sw (nI q) (nI sc) (nI sp) (nI tp) n (nI i) ops dst sa sb inp wt dr cur c tn rx ry ad ss st co pl := by
  have hR := hc.1.1.2
  intro d
  induction d with
  | zero =>
    intro i c e h n hn
    obtain ⟨n, rfl, _⟩ := fu hn
    obtain rfl : i = R := by omega
    refine br_t (nI_le (Nat.le_refl _) (by omega)) (Exists.intro (n1 + 2) ?_)
    exact x_r66 hc m N 0 n1 cur c hro hb (by omega) (by omega) hcur (ag_cp h hcur (Nat.le_refl i)) (fun c' r' k => by rw [Nat.zero_add]; exact K c' r' k) (n1 + 2) (by omega)
  | succ d ih =>
    intro i c e h n hn
    obtain ⟨n, rfl, _⟩ := fu hn
    refine br_f (nI_ge (by omega) (by omega)) (And.intro (vp_in_nI (by omega) (by omega)) (And.intro (vp_in_nI (by omega) (by omega)) (nm_e (nm_r (nI_1 i) ?_))))
    rw [nI_clamp (by omega)]
    exact ih (i + 1) _ (by omega) (cp_u h rfl) n (by omega)
theorem y_r36 {post : Int32 → SY → Prop} {n1 : Nat} {f : Int32} (hc : cx R Q M P L ops dst sa sb inp Ii) : ∀ m N t d a b c, nf P R L ops dst sa sb Ii N → ro P R L ops dst sa sb Ii N d m f → N + d ≤ 32 → t + d = n1 → n1 ≤ 32 → (∀ a' b' c', post (nI (t + m)) (nI R, nI Q, nI M, nI P, nI L, nI (N + m), f, sw, nI q, nI sc, ops, dst, sa, sb, inp, wt, dr, a', b', c', yb)) → ∀ n, d + 1 < n → wY_run_36 post (nI n1) n (nI t) (nI R) (nI Q) (nI M) (nI P) (nI L) (nI N) (-1) sw (nI q) (nI sc) ops dst sa sb inp wt dr a b c yb := by
  have hR := hc.1.1.2
  have hQ := hc.1.2.1.2
  have hp := pP_b hc.1.2.2.2.1
  intro m
  induction m with
  | zero =>
    intro N t d a b c hnf hro hb ht hn1 K n hn
    obtain ⟨n, rfl, _⟩ := fu hn
    obtain ⟨h1, h2, h3⟩ := hro
    rcases h3 with ⟨rfl, rfl⟩ | ⟨h3, j0, g1, g2, g3, rfl⟩
    · obtain rfl : t = n1 := by omega
      exact br_t (nI_le (by omega) (by omega)) (K a b c)
    · refine br_f (nI_ge (by omega) (by omega)) (y_load hR (fun r' a' b' k1 k2 k3 => ?_))
      dsimp only
      rw [nI_1 N]
      refine Exists.intro (N + 2) (y_p2 (e := N + 1) (u := fun _ => 0) (Fi := TT P R L ops dst sa sb Ii (fun _ => 0) (N + 1) 0 (fun _ => 0)) hc (rn_0 (by omega)) (z0_ag k3 hQ) (by omega) (fun s hs => hnf s (by omega)) (fun z => absurd g3 (z N (by omega) j0 g1)) (fun s j1 ze z1 z2 z3 a2 b2 => ?_) (N + 1) 0 (fun _ => 0) r' a' (by omega) nf_0 (ag_cp k1 hc.2.2.1 (by omega)) (z0_ag k2 hR) (rn_0 (by omega)) rfl (N + 2) (by omega))
      have hL := hc.1.2.2.2.2
      obtain rfl : N = s := by omega
      have ej : j1 = j0 := by
        rcases Nat.lt_trichotomy j1 j0 with c | c | c
        · exact absurd z3 (g2 j1 c)
        · exact c
        · exact absurd g3 (z2 j0 c)
      subst ej
      exact br_f (nI_pos (by omega)) (K a2 b2 b')
  | succ m ih =>
    intro N t d a b c hnf hro hb ht hn1 K n hn
    obtain ⟨n, rfl, _⟩ := fu hn
    obtain ⟨e, rfl, hnj, hro'⟩ := ro_s hro
    refine br_f (nI_ge (by omega) (by omega)) (y_load hR (fun r' a' b' k1 k2 k3 => ?_))
    dsimp only
    rw [nI_1 N]
    refine y_play (c := 0) (e := N + 1) (t := fun _ => 0) (u := fun _ => 0) hc (rn_0 (by omega)) (z0_ag k3 hQ) (by omega) (by omega) (nf_s hnf hnj) (ag_cp k1 hc.2.2.1 (by omega)) (z0_ag k2 hR) (rn_0 (by omega)) (fun a2 b2 _ _ => ?_)
    refine br_t (by decide) (nm_r (nI_1 N) (nm_r (nI_1 t) ?_))
    refine ih (N + 1) (t + 1) e a2 b2 b' (nf_s hnf hnj) hro' (by omega) (by omega) hn1 (fun a3 b3 c3 => ?_) n (by omega)
    have e1 : N + 1 + m = N + (m + 1) := by omega
    have e2 : t + 1 + m = t + (m + 1) := by omega
    rw [e1, e2]
    exact K a3 b3 c3
end
end
section
/-! the prices: the component's table, the reference's recurrence -/
def cw (w k m : Nat) : Nat := m + pT (w - m) (k - 1) + pT m k
theorem cw_le {w k m : Nat} (h1 : 2 ≤ w) (h2 : w ≤ 32) (h3 : 2 ≤ k) (h4 : k ≤ 6) (h5 : 1 ≤ m) (h6 : m < w) : pT w k ≤ cw w k m := by
  obtain ⟨k, rfl⟩ : ∃ j, k = j + 2 := ⟨k - 2, by omega⟩
  obtain ⟨w, rfl⟩ : ∃ j, w = j + 2 := ⟨w - 2, by omega⟩
  obtain ⟨m, rfl⟩ : ∃ j, m = j + 1 := ⟨m - 1, by omega⟩
  exact pT_le k (by omega) w (by omega) m (by omega)
theorem cw_eq {w k : Nat} (h1 : 2 ≤ w) (h2 : w ≤ 32) (h3 : 2 ≤ k) (h4 : k ≤ 6) : 1 ≤ pS w k ∧ pS w k < w ∧ pT w k = cw w k (pS w k) := by
  obtain ⟨k, rfl⟩ : ∃ j, k = j + 2 := ⟨k - 2, by omega⟩
  obtain ⟨w, rfl⟩ : ∃ j, w = j + 2 := ⟨w - 2, by omega⟩
  exact pT_eq k (by omega) w (by omega)
theorem cw_b {w k m : Nat} (h2 : w ≤ 32) (h4 : k ≤ 6) (h6 : m ≤ w) : cw w k m ≤ 1100 := by
  have a := pT_b (n := w - m) (k := k - 1) (by omega) (by omega)
  have b := pT_b (n := m) (k := k) (by omega) (by omega)
  unfold cw; omega
/-- be is the least of the first m - 1 totals, and bm attains it -/
def mi (w k m be bm : Nat) : Prop := 1 ≤ bm ∧ bm < m ∧ be = cw w k bm ∧ ∀ m', 1 ≤ m' → m' < m → be ≤ cw w k m'
theorem mi_k {w k m be bm : Nat} (h : mi w k m be bm) (c : be ≤ cw w k m) : mi w k (m + 1) be bm := by
  obtain ⟨a, b, e, f⟩ := h
  refine ⟨a, by omega, e, fun m' h1 h2 => ?_⟩
  by_cases z : m' = m
  · subst z; exact c
  · exact f m' h1 (by omega)
theorem mi_n {w k m be bm : Nat} (h : mi w k m be bm) (c : cw w k m < be) : mi w k (m + 1) (cw w k m) m := by
  obtain ⟨a, b, e, f⟩ := h
  refine ⟨by omega, by omega, rfl, fun m' h1 h2 => ?_⟩
  by_cases z : m' = m
  · subst z; exact Nat.le_refl _
  · have := f m' h1 (by omega); omega
theorem mi_1 {w k : Nat} : mi w k 2 (cw w k 1) 1 := by
  refine ⟨by omega, by omega, rfl, fun m' h1 h2 => ?_⟩
  obtain rfl : m' = 1 := by omega
  exact Nat.le_refl _
theorem mi_e {w k be bm : Nat} (h : mi w k w be bm) (h1 : 2 ≤ w) (h2 : w ≤ 32) (h3 : 2 ≤ k) (h4 : k ≤ 6) : be = pT w k := by
  obtain ⟨a, b, e, f⟩ := h
  obtain ⟨p1, p2, p3⟩ := cw_eq h1 h2 h3 h4
  have := f _ p1 p2
  have := cw_le h1 h2 h3 h4 a b
  omega
def fc (k w : Nat) (co : Nat → Int32) : Prop := ∀ n' k', n' ≤ 32 → 1 ≤ k' → k' ≤ 6 → (k' < k ∨ (k' = k ∧ n' < w) ∨ n' < 2) → co (n' * 7 + k') = nI (pT n' k')
def fs (k w : Nat) (pl : Nat → Int32) : Prop := ∀ n' k', 2 ≤ n' → n' ≤ 32 → 2 ≤ k' → k' ≤ 6 → (k' < k ∨ (k' = k ∧ n' < w)) → ∃ m, 1 ≤ m ∧ m < n' ∧ pl (n' * 7 + k') = nI m ∧ pT n' k' = cw n' k' m
theorem fc_s {k w : Nat} {co : Nat → Int32} (h : fc k w co) (h1 : 1 ≤ k) (h2 : k ≤ 6) : fc k (w + 1) (upd co (w * 7 + k) (nI (pT w k))) := by
  intro n' k' a b c d
  by_cases z : n' = w ∧ k' = k
  · obtain ⟨rfl, rfl⟩ := z; exact pk_us
  · rw [pk_un (by omega)]
    exact h n' k' a b c (by omega)
theorem fc_k {k : Nat} {co : Nat → Int32} (h : fc k 33 co) : fc (k + 1) 2 co := fun n' k' a b c d => h n' k' a b c (by omega)
theorem fs_s {k w m : Nat} {pl : Nat → Int32} (h : fs k w pl) (h1 : 1 ≤ k) (h2 : k ≤ 6) (m1 : 1 ≤ m) (m2 : m < w) (m3 : pT w k = cw w k m) : fs k (w + 1) (upd pl (w * 7 + k) (nI m)) := by
  intro n' k' a b c d e
  by_cases z : n' = w ∧ k' = k
  · obtain ⟨rfl, rfl⟩ := z; exact ⟨m, m1, m2, pk_us, m3⟩
  · rw [pk_un (by omega)]
    exact h n' k' a b c d (by omega)
theorem fs_k {k : Nat} {pl : Nat → Int32} (h : fs k 33 pl) : fs (k + 1) 2 pl := fun n' k' a b c d e => h n' k' a b c d (by omega)
def pt (co pl : Nat → Int32) : Prop := fc 7 2 co ∧ fs 7 2 pl
theorem ix_1 {w m k : Nat} (h : m ≤ w) (h2 : 1 ≤ k) : (((nI w - nI m) * 7) + nI k) - 1 = nI ((w - m) * 7 + (k - 1)) := by
  rw [show (7 : Int32) = nI 7 from rfl, show (1 : Int32) = nI 1 from rfl, pk_sub h, pk_mul, nI_add, pk_sub (by omega)]
  exact congrArg nI (by omega)
theorem ix_2 (m k : Nat) : (nI m * 7) + nI k = nI (m * 7 + k) := by
  rw [show (7 : Int32) = nI 7 from rfl, pk_mul, nI_add]
theorem ix_3 {w : Nat} (h1 : 1 ≤ w) (h2 : w ≤ 32) : (nI w * (nI w - 1)) / 2 = nI (pT w 1) := by
  have hb : w * (w - 1) ≤ 32 * 31 := Nat.mul_le_mul h2 (by omega)
  rw [show (2 : Int32) = nI 2 from rfl, show (1 : Int32) = nI 1 from rfl, pk_sub h1, pk_mul, pk_div (by omega) (by omega) (by omega), pT_1 w (by omega)]
section
variable {R Q M P L N q sc sp tp : Nat} {fl sw : Int32} {ops dst sa sb inp wt dr cur rg tn rx ry ad ss st co pl yr yt yu yb : Nat → Int32} {Ii Wi Vi : Nat → Int}
theorem x_f82 {post : SX → Prop} {J34 J42 : Int32 → (Nat → Int32) → (Nat → Int32) → (Nat → Int32) → (Nat → Int32) → (Nat → Int32) → (Nat → Int32) → (Nat → Int32) → (Nat → Int32) → (Nat → Int32) → (Nat → Int32) → (Nat → Int32) → (Nat → Int32) → (Nat → Int32) → (Nat → Int32) → (Nat → Int32) → (Nat → Int32) → (Nat → Int32) → Prop} {k w : Nat} (h1 : 2 ≤ w) (h2 : w ≤ 32) (h3 : 2 ≤ k) (h4 : k ≤ 6) (hf : fc k w co) (K : ∀ bm, 1 ≤ bm → bm < w → pT w k = cw w k bm → J42 (nI (w + 1)) ops dst sa sb inp wt dr cur rg tn rx ry ad ss st (upd co (w * 7 + k) (nI (pT w k))) (upd pl (w * 7 + k) (nI bm))) : ∀ d m be bm, m + d = w → mi w k m be bm → ∀ n, d < n → wX_fillPrices_82 post J34 J42 (nI k) (nI w) (nI R) (nI Q) (nI M) (nI P) (nI L) (nI N) fl sw (nI q) (nI sc) (nI sp) (nI tp) ops dst sa sb inp wt dr cur rg tn rx ry ad ss st co pl n (nI be) (nI bm) (nI m) := by
  intro d
  induction d with
  | zero =>
    intro m be bm e hm n hn
    obtain ⟨n, rfl, _⟩ := fu hn
    obtain rfl : m = w := by omega
    obtain rfl := mi_e hm h1 h2 h3 h4
    refine br_t (nI_le (Nat.le_refl _) (by omega)) ?_
    rw [ix_2, nI_clamp (by omega)]
    exact And.intro (vp_in_nI (by omega) (by omega)) (nm_e (And.intro (vp_in_nI (by omega) (by omega)) (nm_e (nm_r (nI_1 m) (K bm hm.1 hm.2.1 hm.2.2.1)))))
  | succ d ih =>
    intro m be bm e hm n hn
    obtain ⟨n, rfl, _⟩ := fu hn
    have hb : be ≤ 1100 := by rw [hm.2.2.1]; exact cw_b h2 h4 (by have := hm.2.1; omega)
    have hcb := cw_b (w := w) (k := k) (m := m) h2 h4 (by omega)
    have m1 : 1 ≤ m := by have := hm.1; have := hm.2.1; omega
    refine br_f (nI_ge (by omega) (by omega)) ?_
    rw [ix_1 (by omega) (by omega), ix_2, nI_clamp (by omega), nI_clamp (by omega)]
    refine And.intro (vp_in_nI (by omega) (by omega)) (And.intro (vp_in_nI (by omega) (by omega)) (nm_r (e' := nI (cw w k m)) ?_ ?_))
    · rw [hf (w - m) (k - 1) (by omega) (by omega) (by omega) (by omega), hf m k (by omega) (by omega) (by omega) (by omega), nI_add, nI_add, cw]
    · refine pk_le be (cw w k m) (fun c => nm_r (nI_1 m) ?_) (fun c => nm_r (nI_1 m) ?_)
      · exact ih (m + 1) be bm (by omega) (mi_k hm c) n (by omega)
      · exact ih (m + 1) (cw w k m) m (by omega) (mi_n hm c) n (by omega)
theorem x_f42 {post : SX → Prop} {J34 : Int32 → (Nat → Int32) → (Nat → Int32) → (Nat → Int32) → (Nat → Int32) → (Nat → Int32) → (Nat → Int32) → (Nat → Int32) → (Nat → Int32) → (Nat → Int32) → (Nat → Int32) → (Nat → Int32) → (Nat → Int32) → (Nat → Int32) → (Nat → Int32) → (Nat → Int32) → (Nat → Int32) → (Nat → Int32) → Prop} {k : Nat} (h3 : 2 ≤ k) (h4 : k ≤ 6) (K : ∀ co' pl', fc k 33 co' → fs k 33 pl' → J34 (nI (k + 1)) ops dst sa sb inp wt dr cur rg tn rx ry ad ss st co' pl') : ∀ d w co pl, w + d = 33 → 2 ≤ w → fc k w co → fs k w pl → ∀ n, d < n → wX_fillPrices_42 post J34 (nI k) (nI R) (nI Q) (nI M) (nI P) (nI L) (nI N) fl sw (nI q) (nI sc) (nI sp) (nI tp) n (nI w) ops dst sa sb inp wt dr cur rg tn rx ry ad ss st co pl := by
  intro d
  induction d with
  | zero =>
    intro w co pl e hw hf hs n hn
    obtain ⟨n, rfl, _⟩ := fu hn
    obtain rfl : w = 33 := by omega
    exact br_t (nI_lt (a := 32) (by omega) (by omega)) (nm_r (nI_1 k) (K co pl hf hs))
  | succ d ih =>
    intro w co pl e hw hf hs n hn
    obtain ⟨n, rfl, _⟩ := fu hn
    refine br_f (nI_nlt (a := 32) (by omega) (by omega)) ?_
    rw [show (nI w - 1 : Int32) = nI w - nI 1 from rfl, ix_1 (by omega) (by omega), show (7 : Int32) + nI k = nI (7 + k) from nI_add 7 k, nI_clamp (by omega), nI_clamp (by omega)]
    refine And.intro (vp_in_nI (by omega) (by omega)) (And.intro (vp_in_nI (by omega) (by omega)) (nm_r (e' := nI (cw w k 1)) ?_ (Exists.intro (w + 1) ?_)))
    · rw [hf (w - 1) (k - 1) (by omega) (by omega) (by omega) (by omega), show 7 + k = 1 * 7 + k from rfl, hf 1 k (by omega) (by omega) (by omega) (by omega), show (1 : Int32) = nI 1 from rfl, nI_add, nI_add, cw]
    · exact x_f82 hw (by omega) h3 h4 hf (fun bm b1 b2 b3 => ih (w + 1) _ _ (by omega) (by omega) (fc_s hf (by omega) h4) (fs_s hs (by omega) h4 b1 b2 b3) n (by omega)) (w - 2) 2 (cw w k 1) 1 (by omega) mi_1 (w + 1) (by omega)
theorem x_f34 {post : SX → Prop} (K : ∀ co' pl', pt co' pl' → post (nI R, nI Q, nI M, nI P, nI L, nI N, fl, sw, nI q, nI sc, nI sp, nI tp, ops, dst, sa, sb, inp, wt, dr, cur, rg, tn, rx, ry, ad, ss, st, co', pl')) : ∀ d k co pl, k + d = 7 → 2 ≤ k → fc k 2 co → fs k 2 pl → ∀ n, d < n → wX_fillPrices_34 post (nI R) (nI Q) (nI M) (nI P) (nI L) (nI N) fl sw (nI q) (nI sc) (nI sp) (nI tp) n (nI k) ops dst sa sb inp wt dr cur rg tn rx ry ad ss st co pl := by
  intro d
  induction d with
  | zero =>
    intro k co pl e hw hf hs n hn
    obtain ⟨n, rfl, _⟩ := fu hn
    obtain rfl : k = 7 := by omega
    exact br_t (nI_lt (a := 6) (by omega) (by omega)) (K co pl ⟨hf, hs⟩)
  | succ d ih =>
    intro k co pl e hw hf hs n hn
    obtain ⟨n, rfl, _⟩ := fu hn
    refine br_f (nI_nlt (a := 6) (by omega) (by omega)) (Exists.intro 32 ?_)
    exact x_f42 hw (by omega) (fun co' pl' k1 k2 => ih (k + 1) co' pl' (by omega) (by omega) (fc_k k1) (fs_k k2) n (by omega)) 31 2 co pl (by omega) (by omega) hf hs 32 (by omega)
theorem x_f2 {post : SX → Prop} (K : ∀ co' pl', pt co' pl' → post (nI R, nI Q, nI M, nI P, nI L, nI N, fl, sw, nI q, nI sc, nI sp, nI tp, ops, dst, sa, sb, inp, wt, dr, cur, rg, tn, rx, ry, ad, ss, st, co', pl')) : ∀ d w co, w + d = 33 → 2 ≤ w → fc 1 w co → ∀ n, d < n → wX_fillPrices_2 post (nI R) (nI Q) (nI M) (nI P) (nI L) (nI N) fl sw (nI q) (nI sc) (nI sp) (nI tp) n (nI w) ops dst sa sb inp wt dr cur rg tn rx ry ad ss st co pl := by
  intro d
  induction d with
  | zero =>
    intro w co e hw hf n hn
    obtain ⟨n, rfl, _⟩ := fu hn
    obtain rfl : w = 33 := by omega
    refine br_t (nI_lt (a := 32) (by omega) (by omega)) (Exists.intro 6 ?_)
    exact x_f34 K 5 2 co pl (by omega) (by omega) (fc_k hf) (fun n' k' a b c d e => by omega) 6 (by omega)
  | succ d ih =>
    intro w co e hw hf n hn
    obtain ⟨n, rfl, _⟩ := fu hn
    refine br_f (nI_nlt (a := 32) (by omega) (by omega)) (And.intro (by decide) ?_)
    rw [show (nI w * 7 + 1 : Int32) = nI w * 7 + nI 1 from rfl, ix_2, nI_clamp (by omega)]
    refine And.intro (vp_in_nI (by omega) (by omega)) (nm_r (e' := upd co (w * 7 + 1) (nI (pT w 1))) ?_ (nm_r (nI_1 w) ?_))
    · rw [ix_3 (by omega) (by omega)]
    · exact ih (w + 1) _ (by omega) (by omega) (fc_s hf (by omega) (by omega)) n (by omega)
theorem x_fill {post : SX → Prop} (K : ∀ co' pl', pt co' pl' → post (nI R, nI Q, nI M, nI P, nI L, nI N, fl, sw, nI q, nI sc, nI sp, nI tp, ops, dst, sa, sb, inp, wt, dr, cur, rg, tn, rx, ry, ad, ss, st, co', pl')) : wpX_fillPrices post (nI R, nI Q, nI M, nI P, nI L, nI N, fl, sw, nI q, nI sc, nI sp, nI tp, ops, dst, sa, sb, inp, wt, dr, cur, rg, tn, rx, ry, ad, ss, st, fun _ => 0, pl) := by
  refine Exists.intro 32 (x_f2 K 31 2 (fun _ => 0) (by omega) (by omega) (fun n' k' a b c d => ?_) 32 (by omega))
  have h : n' = 0 ∨ n' = 1 := by omega
  have z := pT_0 k' (by omega)
  rcases h with rfl | rfl
  · rw [z.1]; rfl
  · rw [z.2]; rfl
/-- the reference's table, at k * 33 + n -/
def yc (j i : Nat) (yb : Nat → Int32) : Prop := ∀ n' k', n' ≤ 32 → 1 ≤ k' → k' ≤ 6 → (k' < j ∨ (k' = j ∧ n' < i)) → yb (k' * 33 + n') = nI (pT n' k')
theorem yc_s {j i : Nat} {yb : Nat → Int32} (h : yc j i yb) (h2 : i ≤ 32) : yc j (i + 1) (upd yb (j * 33 + i) (nI (pT i j))) := by
  intro n' k' a b c d
  by_cases z : n' = i ∧ k' = j
  · obtain ⟨rfl, rfl⟩ := z; exact pk_us
  · rw [pk_un (by omega)]
    exact h n' k' a b c (by omega)
theorem ix_4 (j i : Nat) : (nI j * 33) + nI i = nI (j * 33 + i) := by
  rw [show (33 : Int32) = nI 33 from rfl, pk_mul, nI_add]
theorem ix_5 {j i m : Nat} (h1 : 1 ≤ j) (h : m ≤ i) : (((nI j - 1) * 33) + nI i) - nI m = nI ((j - 1) * 33 + (i - m)) := by
  rw [show (33 : Int32) = nI 33 from rfl, show (1 : Int32) = nI 1 from rfl, pk_sub h1, pk_mul, nI_add, pk_sub (by omega)]
  exact congrArg nI (by omega)
theorem y_122 {post : Int32 → SY → Prop} {J2 J11 : Int32 → (Nat → Int32) → (Nat → Int32) → (Nat → Int32) → (Nat → Int32) → (Nat → Int32) → (Nat → Int32) → (Nat → Int32) → (Nat → Int32) → (Nat → Int32) → (Nat → Int32) → (Nat → Int32) → Prop} {x1 x2 v : Int32} {j i : Nat} (hj : j ≤ 6) (hi : i ≤ 32) (K : J11 (nI (i + 1)) ops dst sa sb inp wt dr yr yt yu (upd yb (j * 33 + i) v)) : wY_cost_122 post J2 J11 x1 x2 (nI j) (nI i) v (nI R) (nI Q) (nI M) (nI P) (nI L) (nI N) fl sw (nI q) (nI sc) ops dst sa sb inp wt dr yr yt yu yb := by
  unfold wY_cost_122
  rw [ix_4, nI_clamp (by omega)]
  exact And.intro (vp_in_nI (by omega) (by omega)) (nm_e (nm_r (nI_1 i) K))
theorem y_55 {post : Int32 → SY → Prop} {J2 J11 : Int32 → (Nat → Int32) → (Nat → Int32) → (Nat → Int32) → (Nat → Int32) → (Nat → Int32) → (Nat → Int32) → (Nat → Int32) → (Nat → Int32) → (Nat → Int32) → (Nat → Int32) → (Nat → Int32) → Prop} {x1 x2 : Int32} {j i : Nat} (h3 : 2 ≤ j) (h4 : j ≤ 6) (h1 : 2 ≤ i) (h2 : i ≤ 32) (hf : yc j i yb) (K : J11 (nI (i + 1)) ops dst sa sb inp wt dr yr yt yu (upd yb (j * 33 + i) (nI (pT i j)))) : ∀ d m be, m + d = i → 1 ≤ m → be ≤ 1100 → (1 < m → ∃ bm, mi i j m be bm) → ∀ n, d < n → wY_cost_55 post J2 J11 x1 x2 (nI j) (nI i) (nI R) (nI Q) (nI M) (nI P) (nI L) (nI N) fl sw (nI q) (nI sc) ops dst sa sb inp wt dr yr yt yu yb n (nI be) (nI m) := by
  intro d
  induction d with
  | zero =>
    intro m be e hm hb hq n hn
    obtain ⟨n, rfl, _⟩ := fu hn
    obtain rfl : m = i := by omega
    obtain ⟨bm, hq⟩ := hq (by omega)
    obtain rfl := mi_e hq h1 h2 h3 h4
    refine br_t ?_ (y_122 h4 h2 K)
    rw [show (1 : Int32) = nI 1 from rfl, pk_sub (by omega)]
    exact nI_lt (by omega) (by omega)
  | succ d ih =>
    intro m be e hm hb hq n hn
    obtain ⟨n, rfl, _⟩ := fu hn
    have hcb := cw_b (w := i) (k := j) (m := m) h2 h4 (by omega)
    refine br_f ?_ ?_
    · rw [show (1 : Int32) = nI 1 from rfl, pk_sub (by omega)]
      exact nI_nlt (by omega) (by omega)
    rw [ix_5 (by omega) (by omega), ix_4, nI_clamp (by omega), nI_clamp (by omega)]
    refine And.intro (vp_in_nI (by omega) (by omega)) (And.intro (vp_in_nI (by omega) (by omega)) (nm_r (e' := nI (cw i j m)) ?_ ?_))
    · rw [hf (i - m) (j - 1) (by omega) (by omega) (by omega) (by omega), hf m j (by omega) (by omega) (by omega) (by omega), nI_add, nI_add, cw]
    · refine pk_eq m 1 (fun c => nm_r (nI_1 m) ?_) (fun c => pk_le be (cw i j m) (fun c' => nm_r (nI_1 m) ?_) (fun c' => nm_r (nI_1 m) ?_))
      · subst c
        exact ih 2 (cw i j 1) (by omega) (by omega) (by omega) (fun _ => ⟨1, mi_1⟩) n (by omega)
      · obtain ⟨bm, hq⟩ := hq (by omega)
        exact ih (m + 1) be (by omega) (by omega) hb (fun _ => ⟨bm, mi_k hq c'⟩) n (by omega)
      · obtain ⟨bm, hq⟩ := hq (by omega)
        exact ih (m + 1) (cw i j m) (by omega) (by omega) (by omega) (fun _ => ⟨m, mi_n hq c'⟩) n (by omega)
theorem y_11 {post : Int32 → SY → Prop} {J2 : Int32 → (Nat → Int32) → (Nat → Int32) → (Nat → Int32) → (Nat → Int32) → (Nat → Int32) → (Nat → Int32) → (Nat → Int32) → (Nat → Int32) → (Nat → Int32) → (Nat → Int32) → (Nat → Int32) → Prop} {x1 x2 : Int32} {j : Nat} (h3 : 1 ≤ j) (h4 : j ≤ 6) (K : ∀ yb', yc j 33 yb' → J2 (nI (j + 1)) ops dst sa sb inp wt dr yr yt yu yb') : ∀ d i yb, i + d = 33 → yc j i yb → ∀ n, d < n → wY_cost_11 post J2 x1 x2 (nI j) (nI R) (nI Q) (nI M) (nI P) (nI L) (nI N) fl sw (nI q) (nI sc) n (nI i) ops dst sa sb inp wt dr yr yt yu yb := by
  intro d
  induction d with
  | zero =>
    intro i yb e hf n hn
    obtain ⟨n, rfl, _⟩ := fu hn
    obtain rfl : i = 33 := by omega
    exact br_t (nI_lt (a := 32) (by omega) (by omega)) (nm_r (nI_1 j) (K yb hf))
  | succ d ih =>
    intro i yb e hf n hn
    obtain ⟨n, rfl, _⟩ := fu hn
    have F := ih (i + 1) _ (by omega) (yc_s hf (by omega)) n (by omega)
    refine br_f (nI_nlt (a := 32) (by omega) (by omega)) ?_
    by_cases c : i < 2
    · have e0 : pT i j = 0 := by
        have z := pT_0 j (by omega)
        have : i = 0 ∨ i = 1 := by omega
        rcases this with rfl | rfl
        · exact z.1
        · exact z.2
      rw [e0] at F
      exact br_t (nI_lt (b := 2) c (by omega)) (br_t (nI_lt (b := 2) c (by omega)) (y_122 h4 (by omega) F))
    · refine br_f (nI_nlt (b := 2) (by omega) (by omega)) (pk_eq j 1 (fun cj => ?_) (fun cj => ?_))
      · subst cj
        refine And.intro (by decide) (nm_r (ix_3 (by omega) (by omega)) (y_122 h4 (by omega) F))
      · refine br_f (nI_nlt (b := 2) (by omega) (by omega)) (Exists.intro (i + 1) ?_)
        exact y_55 (by omega) h4 (by omega) (by omega) hf F (i - 1) 1 0 (by omega) (by omega) (by omega) (fun z => absurd z (by omega)) (i + 1) (by omega)
theorem y_2 {post : Int32 → SY → Prop} {w k : Nat} (hw : w ≤ 32) (h3 : 1 ≤ k) (h4 : k ≤ 6) (K : ∀ yb', post (nI (pT w k)) (nI R, nI Q, nI M, nI P, nI L, nI N, fl, sw, nI q, nI sc, ops, dst, sa, sb, inp, wt, dr, yr, yt, yu, yb')) : ∀ d j yb, j + d = 7 → 1 ≤ j → yc j 0 yb → ∀ n, d < n → wY_cost_2 post (nI w) (nI k) (nI R) (nI Q) (nI M) (nI P) (nI L) (nI N) fl sw (nI q) (nI sc) n (nI j) ops dst sa sb inp wt dr yr yt yu yb := by
  intro d
  induction d with
  | zero =>
    intro j yb e hj hf n hn
    obtain ⟨n, rfl, _⟩ := fu hn
    obtain rfl : j = 7 := by omega
    refine br_t (nI_lt (a := 6) (by omega) (by omega)) ?_
    rw [ix_4, nI_clamp (by omega), hf w k hw h3 h4 (by omega)]
    exact And.intro (vp_in_nI (by omega) (by omega)) (K yb)
  | succ d ih =>
    intro j yb e hj hf n hn
    obtain ⟨n, rfl, _⟩ := fu hn
    refine br_f (nI_nlt (a := 6) (by omega) (by omega)) (Exists.intro 34 ?_)
    exact y_11 hj (by omega) (fun yb' h => ih (j + 1) yb' (by omega) (by omega) (fun n' k' a b c d => h n' k' a b c (by omega)) n (by omega)) 33 0 yb (by omega) hf 34 (by omega)
theorem y_cost {post : Int32 → SY → Prop} {w k : Nat} (hw : w ≤ 32) (h3 : 1 ≤ k) (h4 : k ≤ 6) (K : ∀ yb', post (nI (pT w k)) (nI R, nI Q, nI M, nI P, nI L, nI N, fl, sw, nI q, nI sc, ops, dst, sa, sb, inp, wt, dr, yr, yt, yu, yb')) : wpY_cost post (nI R, nI Q, nI M, nI P, nI L, nI N, fl, sw, nI q, nI sc, ops, dst, sa, sb, inp, wt, dr, yr, yt, yu, yb) (nI w) (nI k) := by
  exact Exists.intro 7 (y_2 hw h3 h4 K 6 1 yb (by omega) (by omega) (fun n' k' a b c d => by omega) 7 (by omega))
end
end
section
/-! the component's checkpoint stack -/
def uN1 (S : Nat → Nat) (k v : Nat) : Nat → Nat := fun i => if i = k then v else S i
theorem uN1_s {S : Nat → Nat} {k v : Nat} : uN1 S k v k = v := if_pos rfl
theorem uN1_n {S : Nat → Nat} {k v i : Nat} (h : i ≠ k) : uN1 S k v i = S i := if_neg h
/-- slot tp of st' holds r below i, the lower slots are as in st -/
def sk (tp i : Nat) (st st' r : Nat → Int32) : Prop := (∀ k, k < i → st' (tp * 6 + k) = r k) ∧ (∀ m, m < tp * 6 → st' m = st m)
def sk6 (R : Nat) (X : Nat → Nat → Int) (S : Nat → Nat) (tp : Nat) (ss st : Nat → Int32) : Prop := S 0 = 0 ∧ (∀ i, i ≤ tp → ss i = nI (S i)) ∧ (∀ i, i < tp → S i < S (i + 1)) ∧ (∀ i, i ≤ tp → ∀ r, r < R → st (i * 6 + r) = zI (X (S i) r))
theorem sk6_p {R tp a : Nat} {X : Nat → Nat → Int} {S : Nat → Nat} {ss st st' r : Nat → Int32} (h : sk6 R X S tp ss st) (hR : R ≤ 6) (ha : S tp < a) (hk : sk (tp + 1) R st st' r) (hr : ag R r (X a)) : sk6 R X (uN1 S (tp + 1) a) (tp + 1) (upd ss (tp + 1) (nI a)) st' := by
  obtain ⟨h1, h2, h3, h4⟩ := h
  refine ⟨by rw [uN1_n (by omega)]; exact h1, fun i hi => ?_, fun i hi => ?_, fun i hi k hk2 => ?_⟩
  · by_cases c : i = tp + 1
    · subst c; rw [pk_us, uN1_s]
    · rw [pk_un c, uN1_n c]; exact h2 i (by omega)
  · by_cases c : i = tp
    · subst c; rw [uN1_s, uN1_n (by omega)]; exact ha
    · rw [uN1_n (by omega), uN1_n (by omega)]; exact h3 i (by omega)
  · by_cases c : i = tp + 1
    · subst c; rw [uN1_s, hk.1 k hk2]; exact hr k hk2
    · rw [uN1_n c, hk.2 _ (by omega)]; exact h4 i (by omega) k hk2
theorem sk6_d {R tp : Nat} {X : Nat → Nat → Int} {S : Nat → Nat} {ss st : Nat → Int32} (h : sk6 R X S (tp + 1) ss st) : sk6 R X S tp ss st := ⟨h.1, fun i hi => h.2.1 i (by omega), fun i hi => h.2.2.1 i (by omega), fun i hi => h.2.2.2 i (by omega)⟩
def rm (S : Nat → Nat) (sc : Nat) : Nat → Nat
  | 0 => 0
  | i + 1 => rm S sc i + pT (S (i + 1) - S i) (sc - i)
theorem rm_c {S S' : Nat → Nat} {sc : Nat} : ∀ i, (∀ k, k ≤ i → S k = S' k) → rm S sc i = rm S' sc i := by
  intro i
  induction i with
  | zero => intro _; rfl
  | succ i ih => intro h; rw [rm, rm, ih (fun k hk => h k (by omega)), h (i + 1) (by omega), h i (by omega)]
section
variable {R Q M P L N q sc sp tp : Nat} {fl sw : Int32} {ops dst sa sb inp wt dr cur rg tn rx ry ad ss st co pl yr yt yu yb : Nat → Int32} {Ii Wi Vi : Nat → Int}
theorem x_st20 {post : SX → Prop} (hR : R ≤ 6) (ht : tp < 6) (K : ∀ st', sk tp R st st' rg → post (nI R, nI Q, nI M, nI P, nI L, nI N, fl, sw, nI q, nI sc, nI sp, nI tp, ops, dst, sa, sb, inp, wt, dr, cur, rg, tn, rx, ry, ad, ss, st', co, pl)) : ∀ d i s', i + d = R → sk tp i st s' rg → ∀ n, d < n → wX_storeTop_20 post (nI (tp * 6)) (nI R) (nI Q) (nI M) (nI P) (nI L) (nI N) fl sw (nI q) (nI sc) (nI sp) (nI tp) n (nI i) ops dst sa sb inp wt dr cur rg tn rx ry ad ss s' co pl := by
  intro d
  induction d with
  | zero =>
    intro i s' e h n hn
    obtain ⟨n, rfl, _⟩ := fu hn
    obtain rfl : i = R := by omega
    exact br_t (nI_le (Nat.le_refl _) (by omega)) (K s' h)
  | succ d ih =>
    intro i s' e h n hn
    obtain ⟨n, rfl, _⟩ := fu hn
    refine br_f (nI_ge (by omega) (by omega)) (And.intro (vp_in_nI (by omega) (by omega)) ?_)
    rw [nI_add, nI_clamp (by omega), nI_clamp (by omega)]
    refine And.intro (vp_in_nI (by omega) (by omega)) (nm_e (nm_r (nI_1 i) ?_))
    refine ih (i + 1) _ (by omega) ⟨fun k hk => ?_, fun m hm => ?_⟩ n (by omega)
    · by_cases c : k = i
      · subst c; exact pk_us
      · rw [pk_un (by omega)]; exact h.1 k (by omega)
    · rw [pk_un (by omega)]; exact h.2 m hm
theorem t6 (tp : Nat) : nI tp * 6 = nI (tp * 6) := by
  rw [show (6 : Int32) = nI 6 from rfl, pk_mul]
theorem x_sto {post : SX → Prop} {s : Int32} (hR : R ≤ 6) (ht : tp < 6) (K : ∀ st', sk tp R st st' rg → post (nI R, nI Q, nI M, nI P, nI L, nI N, fl, sw, nI q, nI sc, nI sp, nI tp, ops, dst, sa, sb, inp, wt, dr, cur, rg, tn, rx, ry, ad, upd ss tp s, st', co, pl)) : wpX_storeTop post (nI R, nI Q, nI M, nI P, nI L, nI N, fl, sw, nI q, nI sc, nI sp, nI tp, ops, dst, sa, sb, inp, wt, dr, cur, rg, tn, rx, ry, ad, ss, st, co, pl) s := by
  refine And.intro (vp_in_nI ht (by omega)) (nm_r (e' := upd ss tp s) (by rw [nI_clamp (by omega)]) (nm_r (t6 tp) (Exists.intro (R + 1) ?_)))
  exact x_st20 hR ht K R 0 st (by omega) ⟨fun k hk => absurd hk (Nat.not_lt_zero k), fun m _ => rfl⟩ (R + 1) (by omega)
theorem x_l10 {post : SX → Prop} (hR : R ≤ 6) (ht : tp < 6) (K : ∀ r', cp R r' (fun k => st (tp * 6 + k)) → post (nI R, nI Q, nI M, nI P, nI L, nI N, fl, sw, nI q, nI sc, nI sp, nI tp, ops, dst, sa, sb, inp, wt, dr, cur, r', tn, rx, ry, ad, ss, st, co, pl)) : ∀ d i r, i + d = R → cp i r (fun k => st (tp * 6 + k)) → ∀ n, d < n → wX_loadTop_10 post (nI (tp * 6)) (nI R) (nI Q) (nI M) (nI P) (nI L) (nI N) fl sw (nI q) (nI sc) (nI sp) (nI tp) n (nI i) ops dst sa sb inp wt dr cur r tn rx ry ad ss st co pl := by
  intro d
  induction d with
  | zero =>
    intro i r e h n hn
    obtain ⟨n, rfl, _⟩ := fu hn
    obtain rfl : i = R := by omega
    exact br_t (nI_le (Nat.le_refl _) (by omega)) (K r h)
  | succ d ih =>
    intro i r e h n hn
    obtain ⟨n, rfl, _⟩ := fu hn
    refine br_f (nI_ge (by omega) (by omega)) ?_
    rw [nI_add, nI_clamp (by omega), nI_clamp (by omega)]
    refine And.intro (vp_in_nI (by omega) (by omega)) (And.intro (vp_in_nI (by omega) (by omega)) (nm_e (nm_r (nI_1 i) ?_)))
    exact ih (i + 1) _ (by omega) (cp_u h rfl) n (by omega)
theorem x_ldt {post : SX → Prop} (hR : R ≤ 6) (ht : tp < 6) (K : ∀ r', cp R r' (fun k => st (tp * 6 + k)) → post (nI R, nI Q, nI M, nI P, nI L, nI N, fl, sw, nI q, nI sc, nI sp, nI tp, ops, dst, sa, sb, inp, wt, dr, cur, r', tn, rx, ry, ad, ss, st, co, pl)) : wpX_loadTop post (nI R, nI Q, nI M, nI P, nI L, nI N, fl, sw, nI q, nI sc, nI sp, nI tp, ops, dst, sa, sb, inp, wt, dr, cur, rg, tn, rx, ry, ad, ss, st, co, pl) := by
  exact nm_r (t6 tp) (Exists.intro (R + 1) (x_l10 hR ht K R 0 rg (by omega) cp_0 (R + 1) (by omega)))
/-- the end of restoreBefore -/
theorem x_r99 {post : SX → Prop} {a lf w : Nat} (hc : cx R Q M P L ops dst sa sb inp Ii) (hq : q ≤ 32) (hn : nf P R L ops dst sa sb Ii q) (ha : a < q) (hl : q - a < 2 ∨ lf = 1) (hl2 : lf < 7) (hx : ag R rg (XX P R L ops dst sa sb Ii a)) (hs : sp + pT (q - a) lf = w) (K : ∀ sp' r', ag R r' (XX P R L ops dst sa sb Ii (q - 1)) → sp' + pT (q - 1 - a) lf = w → post (nI R, nI Q, nI M, nI P, nI L, nI N, fl, sw, nI q, nI sc, nI sp', nI tp, ops, dst, sa, sb, inp, wt, dr, cur, r', tn, rx, ry, ad, ss, st, co, pl)) : wX_restoreBefore_99 post (nI a) (nI R) (nI Q) (nI M) (nI P) (nI L) (nI N) fl sw (nI q) (nI sc) (nI sp) (nI tp) ops dst sa sb inp wt dr cur rg tn rx ry ad ss st co pl := by
  unfold wX_restoreBefore_99
  rw [pk_sub (by omega)]
  refine pk_lt (q - a) 2 (fun c => ?_) (fun c => ?_)
  · have e : q - 1 = a := by omega
    refine K sp rg (by rw [e]; exact hx) ?_
    have z := pT_0 lf hl2
    have e1 : q - a = 1 := by omega
    have e2 : q - 1 - a = 0 := by omega
    rw [e1, z.2] at hs
    rw [e2, z.1]; exact hs
  · have e1 : lf = 1 := by omega
    subst e1
    rw [show (1 : Int32) = nI 1 from rfl, pk_sub (by omega)]
    refine x_adv hc (by omega) (by omega) (nf_m hn (by omega)) hx (fun a' g => ?_)
    refine nm_r (e' := nI (sp + (q - 1 - a))) ?_ (K _ a' g ?_)
    · rw [pk_sub (by omega), pk_sub (by omega), nI_add]
    · have z := pT_1s (q - 1 - a) (by omega)
      have e2 : q - 1 - a + 1 = q - a := by omega
      rw [e2] at z
      omega
theorem x_r24 {post : SX → Prop} (hc : cx R Q M P L ops dst sa sb inp Ii) (hM : sc ≤ 6) (hq : q ≤ 32) (hn : nf P R L ops dst sa sb Ii q) (hp : pt co pl) (K : ∀ S' tp' sp' ss' st' r', tp' < sc → sk6 R (XX P R L ops dst sa sb Ii) S' tp' ss' st' → S' tp' < q → ag R r' (XX P R L ops dst sa sb Ii (q - 1)) → sp' + pT (q - 1 - S' tp') (sc - tp') + rm S' sc tp' = pT N sc → post (nI R, nI Q, nI M, nI P, nI L, nI N, fl, sw, nI q, nI sc, nI sp', nI tp', ops, dst, sa, sb, inp, wt, dr, cur, r', tn, rx, ry, ad, ss', st', co, pl)) : ∀ lf tp S sp ss st rg, tp + lf = sc → 1 ≤ lf → sk6 R (XX P R L ops dst sa sb Ii) S tp ss st → S tp < q → ag R rg (XX P R L ops dst sa sb Ii (S tp)) → sp + pT (q - S tp) lf + rm S sc tp = pT N sc → ∀ n, lf < n → wX_restoreBefore_24 post n (nI (S tp)) (nI lf) (nI R) (nI Q) (nI M) (nI P) (nI L) (nI N) fl sw (nI q) (nI sc) (nI sp) (nI tp) ops dst sa sb inp wt dr cur rg tn rx ry ad ss st co pl := by
  have hR := hc.1.1.2
  intro lf
  induction lf with
  | zero => intro tp S sp ss st rg _ h; omega
  | succ lf ih =>
    intro tp S sp ss st rg e h1 hk hS hx hs n hn2
    obtain ⟨n, rfl, _⟩ := fu hn2
    have F : (q - S tp < 2 ∨ lf + 1 = 1) → wX_restoreBefore_99 post (nI (S tp)) (nI R) (nI Q) (nI M) (nI P) (nI L) (nI N) fl sw (nI q) (nI sc) (nI sp) (nI tp) ops dst sa sb inp wt dr cur rg tn rx ry ad ss st co pl := by
      intro hl
      refine x_r99 (w := pT N sc - rm S sc tp) hc hq hn hS hl (by omega) hx (by omega) (fun sp' r' g1 g2 => ?_)
      have el : lf + 1 = sc - tp := by omega
      rw [el] at g2 hs
      exact K S tp sp' ss st r' (by omega) hk hS g1 (by omega)
    refine pk_lt (lf + 1) 2 (fun c => F (Or.inr (by omega))) (fun c => ?_)
    rw [pk_sub (by omega)]
    refine pk_lt (q - S tp) 2 (fun c => F (Or.inl c)) (fun c2 => ?_)
    obtain ⟨m, m1, m2, m3, m4⟩ := hp.2 (q - S tp) (lf + 1) c2 (by omega) c (by omega) (by omega)
    rw [ix_2, nI_clamp (by omega), m3]
    refine And.intro (vp_in_nI (by omega) (by omega)) (nm_e ?_)
    rw [nI_add]
    refine x_adv hc (by omega) (by omega) (nf_m hn (by omega)) hx (fun a' g => ?_)
    refine nm_r (nI_add sp m) (nm_e (nm_r (nI_1 tp) (x_sto hR (by omega) (fun st' g2 => nm_r (pk_m1 lf) ?_))))
    have hk' := sk6_p hk hR (a := S tp + m) (by omega) g2 g
    have es : uN1 S (tp + 1) (S tp + m) (tp + 1) = S tp + m := uN1_s
    have et : uN1 S (tp + 1) (S tp + m) tp = S tp := uN1_n (by omega)
    have G := ih (tp + 1) (uN1 S (tp + 1) (S tp + m)) (sp + m) (upd ss (tp + 1) (nI (S tp + m))) st' a' (by omega) (by omega) hk' (by rw [es]; omega) (by rw [es]; exact g) ?_ n (by omega)
    · rw [es] at G
      exact G
    · rw [es, rm, es, et, rm_c (S := uN1 S (tp + 1) (S tp + m)) (S' := S) tp (fun k hk3 => uN1_n (by omega))]
      have e1 : q - (S tp + m) = q - S tp - m := by omega
      have e2 : S tp + m - S tp = m := by omega
      have e3 : sc - tp = lf + 1 := by omega
      rw [e1, e2, e3]
      have m4 : pT (q - S tp) (lf + 1) = m + pT (q - S tp - m) lf + pT m (lf + 1) := m4
      omega
theorem x_rb {post : SX → Prop} {S : Nat → Nat} (hc : cx R Q M P L ops dst sa sb inp Ii) (hM : sc ≤ 6) (hq : q ≤ 32) (hn : nf P R L ops dst sa sb Ii q) (hp : pt co pl) (ht : tp < sc) (hk : sk6 R (XX P R L ops dst sa sb Ii) S tp ss st) (hS : S tp < q) (hs : sp + pT (q - S tp) (sc - tp) + rm S sc tp = pT N sc) (K : ∀ S' tp' sp' ss' st' r', tp' < sc → sk6 R (XX P R L ops dst sa sb Ii) S' tp' ss' st' → S' tp' < q → ag R r' (XX P R L ops dst sa sb Ii (q - 1)) → sp' + pT (q - 1 - S' tp') (sc - tp') + rm S' sc tp' = pT N sc → post (nI R, nI Q, nI M, nI P, nI L, nI N, fl, sw, nI q, nI sc, nI sp', nI tp', ops, dst, sa, sb, inp, wt, dr, cur, r', tn, rx, ry, ad, ss', st', co, pl)) : wpX_restoreBefore post (nI R, nI Q, nI M, nI P, nI L, nI N, fl, sw, nI q, nI sc, nI sp, nI tp, ops, dst, sa, sb, inp, wt, dr, cur, rg, tn, rx, ry, ad, ss, st, co, pl) := by
  have hR := hc.1.1.2
  refine x_ldt hR (by omega) (fun r' g => And.intro (vp_in_nI (by omega) (by omega)) (nm_r (e' := nI (S tp)) (by rw [nI_clamp (by omega)]; exact hk.2.1 tp (Nat.le_refl tp)) (nm_r (pk_sub (by omega)) (Exists.intro (sc - tp + 1) ?_))))
  exact x_r24 hc hM hq hn hp K (sc - tp) tp S sp ss st r' (by omega) (by omega) hk hS (fun k hk2 => (g k hk2).trans (hk.2.2.2 tp (Nat.le_refl tp) k hk2)) hs (sc - tp + 1) (by omega)
end
end
section
/-! the component: record a step, carry the adjoints back, go back -/
def qx (x : Nat → Int) (v : Int) (o d a : Nat) : Int := if o = 6 then x a else if o = 7 then v else x d
/-- what the reversal needs of instruction j is recorded -/
def rq (P R L : Nat) (ops dst sa sb : Nat → Int32) (Ii x : Nat → Int) (s j : Nat) (rx ry : Nat → Int32) : Prop := ∀ o d a b, ops j = nI o → dst j = nI d → sa j = nI a → sb j = nI b → o < 1000 → d < 1000 → a < 1000 → b < 1000 → (6 ≤ o → rx j = zI (qx (xs P R L ops dst sa sb Ii x s j) (ev P R Ii (xs P R L ops dst sa sb Ii x s j) s o d a b) o d a)) ∧ (o = 6 → ry j = zI (xs P R L ops dst sa sb Ii x s j b))
theorem nI_j {a b : Nat} (h : nI a = nI b) (ha : a < 1000) (hb : b < 1000) : a = b := (nI_eq (by omega) (by omega)).mp h
section
variable {R Q M P L N q sc sp tp : Nat} {fl sw : Int32} {ops dst sa sb inp wt dr cur rg tn rx ry ad ss st co pl yr yt yu yb : Nat → Int32} {Ii Wi Vi : Nat → Int}
theorem x_rec {post : SX → Prop} {x : Nat → Int} {s : Nat} (hc : cx R Q M P L ops dst sa sb inp Ii) (hr : rn P R x) (hs : s < 1000) (hn : nj P R L ops dst sa sb Ii x s L) (K : ∀ r' x' y', (∀ j, j < L → rq P R L ops dst sa sb Ii x s j x' y') → post (nI R, nI Q, nI M, nI P, nI L, nI N, fl, sw, nI q, nI sc, nI sp, nI tp, ops, dst, sa, sb, inp, wt, dr, cur, r', tn, x', y', ad, ss, st, co, pl)) : ∀ d j a xx yy, j + d = L → ag R a (xs P R L ops dst sa sb Ii x s j) → (∀ i, i < j → rq P R L ops dst sa sb Ii x s i xx yy) → ∀ n, d < n → wX_recordStep_2 post (nI s) (nI R) (nI Q) (nI M) (nI P) (nI L) (nI N) fl sw (nI q) (nI sc) (nI sp) (nI tp) n (nI j) ops dst sa sb inp wt dr cur a tn xx yy ad ss st co pl := by
  intro d
  induction d with
  | zero =>
    intro j a xx yy e g h n hn
    obtain ⟨n, rfl, _⟩ := fu hn
    obtain rfl : j = L := by omega
    have := hc.1.2.2.2.2
    exact br_t (nI_le (Nat.le_refl _) (by omega)) (K a xx yy h)
  | succ d ih =>
    intro j a xx yy e g h n hn2
    obtain ⟨n, rfl, _⟩ := fu hn2
    obtain ⟨hz, hg, hI, hIr⟩ := hc
    have hL := hz.2.2.2.2
    have hR := hz.1.2
    have hb := pP_b hz.2.2.2.1
    obtain ⟨o, dd, aa, bb, ho, hd, ha, hbb, hv⟩ := hg j (by omega)
    have hxr := xs_rn hz hg hIr hr (s := s) j (by omega)
    obtain ⟨v1, v2, v3, v4, v5, v6, v7⟩ := id hv
    have hj8 : vp_in (nI j) 8 := vp_in_nI (by omega) (by omega)
    have cj : (nI j).toNatClampNeg = j := nI_clamp (by omega)
    have ca : (nI aa).toNatClampNeg = aa := nI_clamp (by omega)
    have cb : (nI bb).toNatClampNeg = bb := nI_clamp (by omega)
    have cd : (nI dd).toNatClampNeg = dd := nI_clamp (by omega)
    have F : ∀ x' y', (∀ i, i < j → x' i = xx i ∧ y' i = yy i) → (6 ≤ o → x' j = zI (qx (xs P R L ops dst sa sb Ii x s j) (ev P R Ii (xs P R L ops dst sa sb Ii x s j) s o dd aa bb) o dd aa)) → (o = 6 → y' j = zI (xs P R L ops dst sa sb Ii x s j bb)) → wX_recordStep_110 post (wX_recordStep_2 post (nI s) (nI R) (nI Q) (nI M) (nI P) (nI L) (nI N) fl sw (nI q) (nI sc) (nI sp) (nI tp) n) (nI s) (nI j) (zI (ev P R Ii (xs P R L ops dst sa sb Ii x s j) s o dd aa bb)) (nI R) (nI Q) (nI M) (nI P) (nI L) (nI N) fl sw (nI q) (nI sc) (nI sp) (nI tp) ops dst sa sb inp wt dr cur a tn x' y' ad ss st co pl := by
      intro x' y' k1 k2 k3
      unfold wX_recordStep_110
      rw [cj, hd, cd]
      refine And.intro hj8 (And.intro (vp_in_nI (by omega) (by omega)) (nm_e (nm_r (nI_1 j) ?_)))
      refine ih (j + 1) _ x' y' (by omega) ?_ ?_ n (by omega)
      · rw [xs_s ho hd ha hbb (by omega) (by omega) v7 (by omega)]
        exact ag_u g rfl
      · intro i hi
        by_cases c : i = j
        · subst c
          intro o' d' a' b' e1 e2 e3 e4 b1 b2 b3 b4
          obtain rfl := nI_j (e1.symm.trans ho) b1 (by omega)
          obtain rfl := nI_j (e2.symm.trans hd) b2 (by omega)
          obtain rfl := nI_j (e3.symm.trans ha) b3 v7
          obtain rfl := nI_j (e4.symm.trans hbb) b4 (by omega)
          exact ⟨k2, k3⟩
        · have k := h i (by omega)
          unfold rq at k ⊢
          rw [(k1 i (by omega)).1, (k1 i (by omega)).2]
          exact k
    refine br_f (nI_ge (by omega) (by omega)) (x_ev hz (by omega) ho hd ha hbb hv hI g hxr hs (fun nft => And.intro hj8 ?_) (fun yft => absurd ((ft_i ho ha (by omega) v7).mpr yft) (hn j (by omega))))
    rw [cj, ho, ha, hbb, hd, ca, cb, cd]
    refine nm_e (pk_eq o 6 (fun c => ?_) (fun c => pk_eq o 7 (fun c2 => ?_) (fun c2 => pk_eq o 8 (fun c3 => ?_) (fun c3 => ?_))))
    · have la := v5 (by omega)
      rw [g aa la, g bb v6]
      refine And.intro hj8 (And.intro (vp_in_nI (by omega) (by omega)) (And.intro hj8 (nm_e (And.intro hj8 (And.intro (vp_in_nI (by omega) (by omega)) (And.intro hj8 (nm_e (F (upd xx j (zI (xs P R L ops dst sa sb Ii x s j aa))) (upd yy j (zI (xs P R L ops dst sa sb Ii x s j bb))) (fun i hi => ⟨pk_un (by omega), pk_un (by omega)⟩) (fun _ => ?_) (fun _ => pk_us)))))))))
      rw [pk_us, qx, if_pos c]
    · refine And.intro hj8 (nm_e (F (upd xx j (zI (ev P R Ii (xs P R L ops dst sa sb Ii x s j) s o dd aa bb))) yy (fun i hi => ⟨pk_un (by omega), rfl⟩) (fun _ => ?_) (fun c4 => absurd c4 c)))
      rw [pk_us, qx, if_neg c, if_pos c2]
    · rw [g dd v2]
      refine And.intro hj8 (And.intro (vp_in_nI (by omega) (by omega)) (And.intro hj8 (nm_e (F (upd xx j (zI (xs P R L ops dst sa sb Ii x s j dd))) yy (fun i hi => ⟨pk_un (by omega), rfl⟩) (fun _ => ?_) (fun c4 => absurd c4 c)))))
      rw [pk_us, qx, if_neg c, if_neg c2]
    · exact F xx yy (fun i hi => ⟨rfl, rfl⟩) (fun c4 => absurd c4 (by omega)) (fun c4 => absurd c4 c)
theorem x_acc {post : SX → Prop} {A : Nat → Int} {i : Nat} {m : Int} (hP : pP P) (hi : i < 10) (hA : ad i = zI (A i)) (h1 : -1073741824 ≤ A i + m) (h2 : A i + m < 1073741824) (K : post (nI R, nI Q, nI M, nI P, nI L, nI N, fl, sw, nI q, nI sc, nI sp, nI tp, ops, dst, sa, sb, inp, wt, dr, cur, rg, tn, rx, ry, upd ad i (zI ((A i + m) % P)), ss, st, co, pl)) : wpX_accumulate post (nI R, nI Q, nI M, nI P, nI L, nI N, fl, sw, nI q, nI sc, nI sp, nI tp, ops, dst, sa, sb, inp, wt, dr, cur, rg, tn, rx, ry, ad, ss, st, co, pl) (nI i) (zI m) := by
  refine And.intro (vp_in_nI hi (by omega)) ?_
  rw [nI_clamp (by omega), hA, zI_add]
  exact x_res hP (by omega) (by omega) (And.intro (vp_in_nI hi (by omega)) (nm_e K))
/-- distribute hands the adjoint on -/
theorem x_dst {post : SX → Prop} {x A : Nat → Int} {v : Int} {j o d a b : Nat} (hz : sz R Q M P L) (hjL : j < 8) (ho : ops j = nI o) (hd : dst j = nI d) (ha : sa j = nI a) (hb : sb j = nI b) (hv : pv P R Q o d a b) (hx : rn P R x) (hvr : 0 ≤ v ∧ v < P) (hA : rn P (R + Q) A) (hd0 : ag (R + Q) ad (ui A d 0)) (hne : A d ≠ 0) (h6 : 6 ≤ o → rx j = zI (qx x v o d a)) (h7 : o = 6 → ry j = zI (x b)) (K : ∀ ad', ag (R + Q) ad' (rv P R x v o d a b A) → post (nI R, nI Q, nI M, nI P, nI L, nI N, fl, sw, nI q, nI sc, nI sp, nI tp, ops, dst, sa, sb, inp, wt, dr, cur, rg, tn, rx, ry, ad', ss, st, co, pl)) : wpX_distribute post (nI R, nI Q, nI M, nI P, nI L, nI N, fl, sw, nI q, nI sc, nI sp, nI tp, ops, dst, sa, sb, inp, wt, dr, cur, rg, tn, rx, ry, ad, ss, st, co, pl) (nI j) (zI (A d)) := by
  obtain ⟨hR, hQ, hM, hP, hL⟩ := hz
  obtain ⟨v1, v2, v3, v4, v5, v6, v7⟩ := hv
  have pb := pP_b hP
  have hj8 : vp_in (nI j) 8 := vp_in_nI hjL (by omega)
  have cj : (nI j).toNatClampNeg = j := nI_clamp (by omega)
  have hA0 : rn P (R + Q) (ui A d 0) := rn_u hA (by omega)
  have gd := hA d (by omega)
  have xb := hx b v6
  have pP0 : 0 < P := by omega
  refine And.intro hj8 (nm_r (e' := nI a) (by rw [cj, ha]) (And.intro hj8 (nm_r (e' := nI b) (by rw [cj, hb]) (And.intro hj8 (nm_r (e' := nI o) (by rw [cj, ho]) ?_)))))
  rw [rv, if_neg hne] at K
  rcases op_c v1 with rfl | rfl | rfl | rfl | rfl | rfl | rfl | rfl | rfl
  · exact br_t (by decide) (K ad hd0)
  · have la := v4 rfl
    have k0 := hA0 (R + a) (by omega)
    refine br_f (by decide) (br_f (by decide) (br_t (by decide) ?_))
    rw [nI_add]
    exact x_acc hP (by omega) (hd0 _ (by omega)) (by omega) (by omega) (K _ (ag_u hd0 rfl))
  · exact br_f (by decide) (br_f (by decide) (br_f (by decide) (br_t (by decide) (K ad hd0))))
  · have la := v5 (by omega)
    have k0 := hA0 a (by omega)
    refine br_f (by decide) (br_f (by decide) (br_f (by decide) (br_f (by decide) (br_t (by decide) ?_))))
    exact x_acc hP (by omega) (hd0 _ (by omega)) (by omega) (by omega) (K _ (ag_u hd0 rfl))
  · have la := v5 (by omega)
    have k0 := hA0 a (by omega)
    have k1 := ac_rn (i := a) (m := A d) pP0 hA0 b (by omega)
    have g1 : ag (R + Q) (upd ad a (zI ((ui A d 0 a + A d) % P))) (ac P (ui A d 0) a (A d)) := ag_u hd0 rfl
    refine br_f (by decide) (br_f (by decide) (br_f (by decide) (br_f (by decide) (br_f (by decide) (br_t (by decide) ?_)))))
    exact x_acc hP (by omega) (hd0 _ (by omega)) (by omega) (by omega) (x_acc hP (by omega) (g1 b (by omega)) (by omega) (by omega) (K _ (ag_u g1 rfl)))
  · have la := v5 (by omega)
    have k0 := hA0 a (by omega)
    have k1 := ac_rn (i := a) (m := A d) pP0 hA0 b (by omega)
    have g1 : ag (R + Q) (upd ad a (zI ((ui A d 0 a + A d) % P))) (ac P (ui A d 0) a (A d)) := ag_u hd0 rfl
    refine br_f (by decide) (br_f (by decide) (br_f (by decide) (br_f (by decide) (br_f (by decide) (br_f (by decide) (br_t (by decide) ?_))))))
    rw [zI_neg]
    exact x_acc hP (by omega) (hd0 _ (by omega)) (by omega) (by omega) (x_acc hP (by omega) (g1 b (by omega)) (by omega) (by omega) (K _ (ag_u g1 rfl)))
  · have la := v5 (by omega)
    have xa := hx a la
    have e6 : rx j = zI (x a) := h6 (by omega)
    have e7 : ry j = zI (x b) := h7 rfl
    have m1 := mu_b pb.2 gd xb
    have m2 := mu_b pb.2 gd xa
    have k0 := hA0 a (by omega)
    have k1 := ac_rn (i := a) (m := A d * x b) pP0 hA0 b (by omega)
    have g1 : ag (R + Q) (upd ad a (zI ((ui A d 0 a + A d * x b) % P))) (ac P (ui A d 0) a (A d * x b)) := ag_u hd0 rfl
    refine br_f (by decide) (br_f (by decide) (br_f (by decide) (br_f (by decide) (br_f (by decide) (br_f (by decide) (br_f (by decide) (br_t (by decide) (And.intro hj8 ?_))))))))
    rw [cj, e7, zI_mul]
    refine x_acc hP (by omega) (hd0 _ (by omega)) (by omega) (by omega) (And.intro hj8 ?_)
    rw [e6, zI_mul]
    exact x_acc hP (by omega) (g1 b (by omega)) (by omega) (by omega) (K _ (ag_u g1 rfl))
  · have la := v5 (by omega)
    have e6 : rx j = zI v := h6 (by omega)
    have m3 := mu_b3 pb.2 hvr hvr gd
    have k0 := hA0 a (by omega)
    refine br_f (by decide) (br_f (by decide) (br_f (by decide) (br_f (by decide) (br_f (by decide) (br_f (by decide) (br_f (by decide) (br_f (by decide) (br_t (by decide) (And.intro hj8 (And.intro hj8 ?_))))))))))
    rw [cj, e6, zI_mul, zI_mul, zI_neg]
    exact x_acc hP (by omega) (hd0 _ (by omega)) (by omega) (by omega) (K _ (ag_u hd0 rfl))
  · have la := v5 (by omega)
    have xd := hx d v2
    have e6 : rx j = zI (x d) := h6 (by omega)
    have k0 := hA0 a (by omega)
    have k1 := hA0 b (by omega)
    refine br_f (by decide) (br_f (by decide) (br_f (by decide) (br_f (by decide) (br_f (by decide) (br_f (by decide) (br_f (by decide) (br_f (by decide) (br_f (by decide) (br_t (by decide) (And.intro hj8 ?_))))))))))
    rw [cj, e6]
    have K : ∀ ad', ag (R + Q) ad' (ac P (ui A d 0) (if x d = 0 then b else a) (A d)) → post (nI R, nI Q, nI M, nI P, nI L, nI N, fl, sw, nI q, nI sc, nI sp, nI tp, ops, dst, sa, sb, inp, wt, dr, cur, rg, tn, rx, ry, ad', ss, st, co, pl) := K
    by_cases c : x d = 0
    · rw [if_pos c] at K
      refine br_t ((zI_ze xd.1 (by omega)).mpr c) ?_
      unfold wX_distribute_194
      exact x_acc hP (by omega) (hd0 _ (by omega)) (by omega) (by omega) (K _ (ag_u hd0 rfl))
    · rw [if_neg c] at K
      refine br_f (fun z => c ((zI_ze xd.1 (by omega)).mp z)) ?_
      unfold wX_distribute_194
      exact x_acc hP (by omega) (hd0 _ (by omega)) (by omega) (by omega) (K _ (ag_u hd0 rfl))
theorem zI_p (j : Nat) : zI (((j + 1 : Nat) : Int) - 1) = nI j := by
  rw [← zI_n]; exact congrArg zI (by omega)
theorem zI_m (j : Nat) : nI j + (-1) = zI ((j : Int) - 1) := by
  rw [← zI_n, show (-1 : Int32) = zI (-1) from rfl, zI_add]
  exact congrArg zI (by omega)
theorem zI_d (j : Nat) : nI j - 1 = zI ((j : Int) - 1) := by
  rw [← zI_n, show (1 : Int32) = zI 1 from rfl, zI_sub]
theorem x_rv7 {post : SX → Prop} {x A0 : Nat → Int} {s : Nat} (hc : cx R Q M P L ops dst sa sb inp Ii) (hr : rn P R x) (hq : ∀ j, j < L → rq P R L ops dst sa sb Ii x s j rx ry) (K : ∀ ad' A', ag (R + Q) ad' A' → rn P (R + Q) A' → (∀ t u, md P (dt R Q A0 (ts P R L ops dst sa sb Ii x s t u L) u) (dt R Q A' t u)) → post (nI R, nI Q, nI M, nI P, nI L, nI N, fl, sw, nI q, nI sc, nI sp, nI tp, ops, dst, sa, sb, inp, wt, dr, cur, rg, tn, rx, ry, ad', ss, st, co, pl)) : ∀ j A ad, j ≤ L → ag (R + Q) ad A → rn P (R + Q) A → (∀ t u, md P (dt R Q A0 (ts P R L ops dst sa sb Ii x s t u L) u) (dt R Q A (ts P R L ops dst sa sb Ii x s t u j) u)) → ∀ n, j < n → wX_reverseStep_7 post n (zI ((j : Int) - 1)) (nI R) (nI Q) (nI M) (nI P) (nI L) (nI N) fl sw (nI q) (nI sc) (nI sp) (nI tp) ops dst sa sb inp wt dr cur rg tn rx ry ad ss st co pl := by
  intro j
  induction j with
  | zero =>
    intro A ad hj g h hm n hn
    obtain ⟨n, rfl, _⟩ := fu hn
    exact br_t (by decide) (K ad A g h hm)
  | succ j ih =>
    intro A ad hj g h hm n hn
    obtain ⟨n, rfl, _⟩ := fu hn
    obtain ⟨hz, hg, hI, hIr⟩ := id hc
    have hL := hz.2.2.2.2
    have hR := hz.1.2
    have hQ := hz.2.1.2
    have hb := pP_b hz.2.2.2.1
    obtain ⟨o, dd, aa, bb, ho, hd, ha, hbb, hv⟩ := hg j (by omega)
    have hxr := xs_rn hz hg hIr hr (s := s) j (by omega)
    have he := ev_rn (s := s) hz.2.2.2.1 hR hz.2.1.2 hv hxr hIr
    obtain ⟨v1, v2, v3, v4, v5, v6, v7⟩ := id hv
    have hj8 : vp_in (nI j) 8 := vp_in_nI (by omega) (by omega)
    have cj : (nI j).toNatClampNeg = j := nI_clamp (by omega)
    have cd : (nI dd).toNatClampNeg = dd := nI_clamp (by omega)
    have id10 : vp_in (nI dd) 10 := vp_in_nI (by omega) (by omega)
    have gd := h dd (by omega)
    have hqj := hq j (by omega) o dd aa bb ho hd ha hbb (by omega) (by omega) v7 (by omega)
    have G : ∀ ad', ag (R + Q) ad' (rv P R (xs P R L ops dst sa sb Ii x s j) (ev P R Ii (xs P R L ops dst sa sb Ii x s j) s o dd aa bb) o dd aa bb A) → wX_reverseStep_7 post n (zI ((j : Int) - 1)) (nI R) (nI Q) (nI M) (nI P) (nI L) (nI N) fl sw (nI q) (nI sc) (nI sp) (nI tp) ops dst sa sb inp wt dr cur rg tn rx ry ad' ss st co pl := by
      intro ad' g'
      refine ih _ ad' (by omega) g' (rv_rn (by omega) h) (fun t u => ?_) n (by omega)
      have m := hm t u
      rw [ts_s ho hd ha hbb (by omega) (by omega) v7 (by omega)] at m
      exact md_t m (rv_du hv)
    rw [zI_p]
    refine br_f (nI_pos (by omega)) (And.intro hj8 ?_)
    rw [cj, hd, cd]
    refine And.intro id10 (nm_r (g dd (by omega)) (And.intro hj8 (And.intro id10 (nm_e (br_c (fun z => ?_) (fun z => ?_))))))
    · have z : A dd = 0 := (zI_ze gd.1 (by omega)).mp z
      refine nm_r (zI_m j) (G _ ?_)
      rw [rv, if_pos z]
      exact ag_u g zI_0.symm
    · have z : A dd ≠ 0 := fun c => z ((zI_ze gd.1 (by omega)).mpr c)
      refine x_dst hz (by omega) ho hd ha hbb hv hxr he h (ag_u g zI_0.symm) z hqj.1 hqj.2 (fun ad' g' => nm_r (zI_m j) (G ad' g'))
theorem x_rvs {post : SX → Prop} {x A : Nat → Int} {s : Nat} (hc : cx R Q M P L ops dst sa sb inp Ii) (hr : rn P R x) (hq : ∀ j, j < L → rq P R L ops dst sa sb Ii x s j rx ry) (g : ag (R + Q) ad A) (h : rn P (R + Q) A) (K : ∀ ad' A', ag (R + Q) ad' A' → rn P (R + Q) A' → (∀ t u, md P (dt R Q A (ts P R L ops dst sa sb Ii x s t u L) u) (dt R Q A' t u)) → post (nI R, nI Q, nI M, nI P, nI L, nI N, fl, sw, nI q, nI sc, nI sp, nI tp, ops, dst, sa, sb, inp, wt, dr, cur, rg, tn, rx, ry, ad', ss, st, co, pl)) : wpX_reverseStep post (nI R, nI Q, nI M, nI P, nI L, nI N, fl, sw, nI q, nI sc, nI sp, nI tp, ops, dst, sa, sb, inp, wt, dr, cur, rg, tn, rx, ry, ad, ss, st, co, pl) := by
  exact nm_r (zI_d L) (Exists.intro (L + 1) (x_rv7 hc hr hq K L A ad (Nat.le_refl L) g h (fun t u => md_r P _) (L + 1) (by omega)))
/-- a standing sweep -/
def sq (P R L : Nat) (ops dst sa sb : Nat → Int32) (Ii Wi : Nat → Int) (Q M N q sc sp tp : Nat) (ad ss st : Nat → Int32) : Prop := q ≤ N ∧ 1 ≤ sc ∧ sc ≤ M ∧ tp < sc ∧ (∃ S, sk6 R (XX P R L ops dst sa sb Ii) S tp ss st ∧ (S tp < q ∨ tp = 0) ∧ sp + pT (q - S tp) (sc - tp) + rm S sc tp = pT N sc) ∧ (∃ A, ag (R + Q) ad A ∧ rn P (R + Q) A ∧ ∀ t u, md P (sm R (fun k => Wi k * TT P R L ops dst sa sb Ii u (N - q) q t k)) (dt R Q A t u))
theorem x_r1 {post : SX → Prop} (hc : cx R Q M P L ops dst sa sb inp Ii) (hN : N ≤ 32) (hn : nf P R L ops dst sa sb Ii N) (hp : pt co pl) (h : sq P R L ops dst sa sb Ii Wi Q M N (q + 1) sc sp tp ad ss st) (K : ∀ sp' tp' r' x' y' ad' ss' st', sq P R L ops dst sa sb Ii Wi Q M N q sc sp' tp' ad' ss' st' → post (nI R, nI Q, nI M, nI P, nI L, nI N, fl, sw, nI q, nI sc, nI sp', nI tp', ops, dst, sa, sb, inp, wt, dr, cur, r', tn, x', y', ad', ss', st', co, pl)) : wpX_reverseOne post (nI R, nI Q, nI M, nI P, nI L, nI N, fl, sw, nI (q + 1), nI sc, nI sp, nI tp, ops, dst, sa, sb, inp, wt, dr, cur, rg, tn, rx, ry, ad, ss, st, co, pl) := by
  obtain ⟨h1, h2, h3, h4, ⟨S, hk, hS, hs⟩, ⟨A, g, hr, hm⟩⟩ := h
  have hM := hc.1.2.2.1.2
  have hS1 : S tp < q + 1 := by
    rcases hS with c | c
    · exact c
    · subst c; rw [hk.1]; omega
  refine x_rb (q := q + 1) hc (by omega) (by omega) (nf_m hn h1) hp h4 hk hS1 hs (fun S' tp' sp' ss' st' r' a1 a2 a3 a4 a5 => ?_)
  rw [Nat.add_sub_cancel] at a4 a5
  refine Exists.intro (L + 1) (x_rec (q := q + 1) (sp := sp') (tp := tp') (ss := ss') (st := st') hc (cx_x hc q) (by omega) (hn q (by omega)) (fun r2 x2 y2 b1 => ?_) L 0 r' rx ry (by omega) a4 (fun i hi => absurd hi (Nat.not_lt_zero i)) (L + 1) (by omega))
  refine x_rvs (q := q + 1) hc (cx_x hc q) b1 g hr (fun ad' A' c1 c2 c3 => ?_)
  have hm' : ∀ t u, md P (sm R (fun k => Wi k * TT P R L ops dst sa sb Ii u (N - q) q t k)) (dt R Q A' t u) := by
    intro t u
    have e : N - q = N - (q + 1) + 1 := by omega
    rw [e]
    exact md_t (hm _ u) (c3 t u)
  refine nm_r (e' := nI q) (nI_pred q) (pk_le tp' 0 (fun c => ?_) (fun c => And.intro (vp_in_nI (by omega) (by omega)) ?_))
  · exact K sp' tp' r2 x2 y2 ad' ss' st' ⟨by omega, h2, h3, a1, ⟨S', a2, Or.inr (by omega), a5⟩, ⟨A', c1, c2, hm'⟩⟩
  · rw [nI_clamp (by omega), a2.2.1 tp' (Nat.le_refl tp')]
    obtain ⟨t1, rfl⟩ : ∃ t1, tp' = t1 + 1 := ⟨tp' - 1, by omega⟩
    refine pk_eq (S' (t1 + 1)) q (fun e => ?_) (fun e => ?_)
    · refine nm_r (e' := nI t1) (nI_pred t1) (K sp' t1 r2 x2 y2 ad' ss' st' ⟨by omega, h2, h3, by omega, ⟨S', sk6_d a2, Or.inl ?_, ?_⟩, ⟨A', c1, c2, hm'⟩⟩)
      · have := a2.2.2.1 t1 (by omega)
        omega
      · rw [rm, e, Nat.sub_self, (pT_0 (sc - (t1 + 1)) (by omega)).1] at a5
        omega
    · exact K sp' (t1 + 1) r2 x2 y2 ad' ss' st' ⟨by omega, h2, h3, a1, ⟨S', a2, Or.inl (by omega), a5⟩, ⟨A', c1, c2, hm'⟩⟩
theorem x_b28 {post : Int32 → SX → Prop} {k e : Nat} (hc : cx R Q M P L ops dst sa sb inp Ii) (hN : N ≤ 32) (hn : nf P R L ops dst sa sb Ii N) (hp : pt co pl) (hk : k ≤ 32) (K : ∀ sp' tp' r' x' y' ad' ss' st', sq P R L ops dst sa sb Ii Wi Q M N e sc sp' tp' ad' ss' st' → post (nI e) (nI R, nI Q, nI M, nI P, nI L, nI N, fl, sw, nI e, nI sc, nI sp', nI tp', ops, dst, sa, sb, inp, wt, dr, cur, r', tn, x', y', ad', ss', st', co, pl)) : ∀ d t sp tp rg rx ry ad ss st, t + d = k → sq P R L ops dst sa sb Ii Wi Q M N (e + d) sc sp tp ad ss st → ∀ n, d < n → wX_back_28 post (nI k) n (nI t) (nI R) (nI Q) (nI M) (nI P) (nI L) (nI N) fl sw (nI (e + d)) (nI sc) (nI sp) (nI tp) ops dst sa sb inp wt dr cur rg tn rx ry ad ss st co pl := by
  intro d
  induction d with
  | zero =>
    intro t sp tp rg rx ry ad ss st e1 h n hn
    obtain ⟨n, rfl, _⟩ := fu hn
    exact br_t (nI_le (by omega) (by omega)) (K sp tp rg rx ry ad ss st h)
  | succ d ih =>
    intro t sp tp rg rx ry ad ss st e1 h n hn2
    obtain ⟨n, rfl, _⟩ := fu hn2
    refine br_f (nI_ge (by omega) (by omega)) (x_r1 (q := e + d) hc hN hn hp h (fun sp' tp' r' x' y' ad' ss' st' h' => nm_r (nI_1 t) ?_))
    exact ih (t + 1) sp' tp' r' x' y' ad' ss' st' (by omega) h' n (by omega)
/-- the beginning of a sweep -/
theorem x_b69 {post : Int32 → SX → Prop} (hR : R ≤ 6) (hQ : Q ≤ 4) (K : ∀ ad' r' st', cp R ad' wt → (∀ k, k < Q → ad' (R + k) = 0) → cp R r' inp → sk 0 R st st' r' → post (nI q) (nI R, nI Q, nI M, nI P, nI L, nI N, fl, sw, nI q, nI sc, nI sp, nI 0, ops, dst, sa, sb, inp, wt, dr, cur, r', tn, rx, ry, ad', upd ss 0 (nI 0), st', co, pl)) : ∀ d j a, j + d = Q → cp R a wt → (∀ k, k < j → a (R + k) = 0) → ∀ n, d < n → wX_beginSweep_69 post (nI R) (nI Q) (nI M) (nI P) (nI L) (nI N) fl sw (nI q) (nI sc) (nI sp) (nI tp) n (nI j) ops dst sa sb inp wt dr cur rg tn rx ry a ss st co pl := by
  intro d
  induction d with
  | zero =>
    intro j a e h1 h2 n hn
    obtain ⟨n, rfl, _⟩ := fu hn
    obtain rfl : j = Q := by omega
    exact br_t (nI_le (Nat.le_refl _) (by omega)) (x_load (tp := 0) hR (fun r' g => x_sto (tp := 0) (s := nI 0) hR (by omega) (fun st' g2 => K a r' st' h1 h2 g g2)))
  | succ d ih =>
    intro j a e h1 h2 n hn
    obtain ⟨n, rfl, _⟩ := fu hn
    refine br_f (nI_ge (by omega) (by omega)) ?_
    rw [nI_add, nI_clamp (by omega)]
    refine And.intro (vp_in_nI (by omega) (by omega)) (nm_e (nm_r (nI_1 j) (ih (j + 1) _ (by omega) (fun k hk => ?_) (fun k hk => ?_) n (by omega))))
    · rw [pk_un (by omega)]; exact h1 k hk
    · by_cases c : k = j
      · subst c; exact pk_us
      · rw [pk_un (by omega)]; exact h2 k (by omega)
theorem x_b41 {post : Int32 → SX → Prop} (hR : R ≤ 6) (hQ : Q ≤ 4) (K : ∀ ad' r' st', cp R ad' wt → (∀ k, k < Q → ad' (R + k) = 0) → cp R r' inp → sk 0 R st st' r' → post (nI q) (nI R, nI Q, nI M, nI P, nI L, nI N, fl, sw, nI q, nI sc, nI sp, nI 0, ops, dst, sa, sb, inp, wt, dr, cur, r', tn, rx, ry, ad', upd ss 0 (nI 0), st', co, pl)) : ∀ d i a, i + d = R → cp i a wt → ∀ n, d < n → wX_beginSweep_41 post (nI R) (nI Q) (nI M) (nI P) (nI L) (nI N) fl sw (nI q) (nI sc) (nI sp) (nI tp) n (nI i) ops dst sa sb inp wt dr cur rg tn rx ry a ss st co pl := by
  intro d
  induction d with
  | zero =>
    intro i a e h n hn
    obtain ⟨n, rfl, _⟩ := fu hn
    obtain rfl : i = R := by omega
    exact br_t (nI_le (Nat.le_refl _) (by omega)) (Exists.intro (Q + 1) (x_b69 hR hQ K Q 0 a (by omega) h (fun k hk => absurd hk (Nat.not_lt_zero k)) (Q + 1) (by omega)))
  | succ d ih =>
    intro i a e h n hn
    obtain ⟨n, rfl, _⟩ := fu hn
    refine br_f (nI_ge (by omega) (by omega)) (And.intro (vp_in_nI (by omega) (by omega)) (And.intro (vp_in_nI (by omega) (by omega)) (nm_e (nm_r (nI_1 i) ?_))))
    rw [nI_clamp (by omega)]
    exact ih (i + 1) _ (by omega) (cp_u h rfl) n (by omega)
theorem sm_z {f : Nat → Int} : ∀ n : Nat, (∀ i, i < n → f i = 0) → sm n f = 0 := by
  intro n
  induction n with
  | zero => intro _; rfl
  | succ n ih => intro h; rw [sm, ih (fun i hi => h i (by omega)), h n (by omega)]; rfl
/-- a sweep just begun stands -/
theorem sq_0 {st' r' : Nat → Int32} (hc : cx R Q M P L ops dst sa sb inp Ii) (hW : ag 6 wt Wi) (hWr : rn P 6 Wi) (h1 : 1 ≤ sc) (h2 : sc ≤ M) (ha : cp R ad wt) (hb : ∀ k, k < Q → ad (R + k) = 0) (hr : cp R r' inp) (hs : sk 0 R st st' r') : sq P R L ops dst sa sb Ii Wi Q M N N sc 0 0 ad (upd ss 0 (nI 0)) st' := by
  have hR := hc.1.1.2
  have hp := pP_b hc.1.2.2.2.1
  refine ⟨Nat.le_refl N, h1, h2, by omega, ⟨fun _ => 0, ⟨rfl, fun i hi => ?_, fun i hi => absurd hi (Nat.not_lt_zero i), fun i hi k hk => ?_⟩, Or.inr rfl, ?_⟩, ⟨fun i => if i < R then Wi i else 0, fun i hi => ?_, fun i hi => ?_, fun t u => ?_⟩⟩
  · obtain rfl : i = 0 := by omega
    exact pk_us
  · obtain rfl : i = 0 := by omega
    rw [hs.1 k hk, hr k hk]
    exact hc.2.2.1 k (by omega)
  · show 0 + pT (N - 0) (sc - 0) + 0 = pT N sc
    rw [Nat.zero_add, Nat.add_zero, Nat.sub_zero, Nat.sub_zero]
  · show ad i = zI (if i < R then Wi i else 0)
    by_cases c : i < R
    · rw [if_pos c, ha i c]; exact hW i (by omega)
    · rw [if_neg c]
      obtain ⟨k, rfl⟩ : ∃ k, i = R + k := ⟨i - R, by omega⟩
      exact hb k (by omega)
  · show 0 ≤ (if i < R then Wi i else 0) ∧ (if i < R then Wi i else 0) < (P : Int)
    by_cases c : i < R
    · rw [if_pos c]; exact hWr i (by omega)
    · rw [if_neg c]; omega
  · rw [Nat.sub_self]
    refine md_e ?_
    rw [dt, sm_z (f := fun j => (if R + j < R then Wi (R + j) else 0) * u j) Q (fun i hi => by show (if R + i < R then Wi (R + i) else 0) * u i = 0; rw [if_neg (by omega), Int.zero_mul]), Int.add_zero]
    refine sm_c R (fun i hi => ?_)
    show Wi i * t i = (if i < R then Wi i else 0) * t i
    rw [if_pos hi]
end
end
section
/-! the relation -/
def fa (R Q M P L N q sc sp tp : Nat) (fl sw : Int32) (ops dst sa sb inp wt dr cur ad ss st co pl : Nat → Int32) (Ii Wi Vi : Nat → Int) : Prop := cx R Q M P L ops dst sa sb inp Ii ∧ N ≤ 32 ∧ (ag 6 wt Wi ∧ rn P 6 Wi) ∧ (ag 10 dr Vi ∧ rn P 10 Vi) ∧ nf P R L ops dst sa sb Ii N ∧ ag R cur (XX P R L ops dst sa sb Ii N) ∧ pt co pl ∧ (fl = -1 ∨ ∃ j, j < 8 ∧ fl = nI j) ∧ (sw = 0 ∨ (sw = 1 ∧ sq P R L ops dst sa sb Ii Wi Q M N q sc sp tp ad ss st))
/-- the relation at the head of a turn: one abstract state behind both objects (k is not used) -/
def i_Rel (k : Nat) (u : SX) (v : SY) : Prop := ∀ Z : SX → SY → Prop, (∀ (R Q M P L N q sc sp tp : Nat) (fl sw : Int32) (ops dst sa sb inp wt dr cur rg tn rx ry ad ss st co pl yr yt yu yb : Nat → Int32) (Ii Wi Vi : Nat → Int), fa R Q M P L N q sc sp tp fl sw ops dst sa sb inp wt dr cur ad ss st co pl Ii Wi Vi → Z (nI R, nI Q, nI M, nI P, nI L, nI N, fl, sw, nI q, nI sc, nI sp, nI tp, ops, dst, sa, sb, inp, wt, dr, cur, rg, tn, rx, ry, ad, ss, st, co, pl) (nI R, nI Q, nI M, nI P, nI L, nI N, fl, sw, nI q, nI sc, ops, dst, sa, sb, inp, wt, dr, yr, yt, yu, yb)) → Z u v
theorem re_e {k : Nat} {u : SX} {v : SY} {Z : SX → SY → Prop} (I : i_Rel k u v) (h : ∀ (R Q M P L N q sc sp tp : Nat) (fl sw : Int32) (ops dst sa sb inp wt dr cur rg tn rx ry ad ss st co pl yr yt yu yb : Nat → Int32) (Ii Wi Vi : Nat → Int), fa R Q M P L N q sc sp tp fl sw ops dst sa sb inp wt dr cur ad ss st co pl Ii Wi Vi → Z (nI R, nI Q, nI M, nI P, nI L, nI N, fl, sw, nI q, nI sc, nI sp, nI tp, ops, dst, sa, sb, inp, wt, dr, cur, rg, tn, rx, ry, ad, ss, st, co, pl) (nI R, nI Q, nI M, nI P, nI L, nI N, fl, sw, nI q, nI sc, ops, dst, sa, sb, inp, wt, dr, yr, yt, yu, yb)) : Z u v := I Z h
section
variable {R Q M P L N q sc sp tp : Nat} {fl sw : Int32} {ops dst sa sb inp wt dr cur rg tn rx ry ad ss st co pl yr yt yu yb : Nat → Int32} {Ii Wi Vi : Nat → Int}
theorem re_i {k : Nat} (h : fa R Q M P L N q sc sp tp fl sw ops dst sa sb inp wt dr cur ad ss st co pl Ii Wi Vi) : i_Rel k (nI R, nI Q, nI M, nI P, nI L, nI N, fl, sw, nI q, nI sc, nI sp, nI tp, ops, dst, sa, sb, inp, wt, dr, cur, rg, tn, rx, ry, ad, ss, st, co, pl) (nI R, nI Q, nI M, nI P, nI L, nI N, fl, sw, nI q, nI sc, ops, dst, sa, sb, inp, wt, dr, yr, yt, yu, yb) := fun _ hZ => hZ R Q M P L N q sc sp tp fl sw ops dst sa sb inp wt dr cur rg tn rx ry ad ss st co pl yr yt yu yb Ii Wi Vi h
/-- a discarded run -/
theorem fa_0 (hc : cx R Q M P L ops dst sa sb inp Ii) (hW : ag 6 wt Wi ∧ rn P 6 Wi) (hV : ag 10 dr Vi ∧ rn P 10 Vi) (hp : pt co pl) (h : cp R cur inp) : fa R Q M P L 0 q sc sp tp (-1) 0 ops dst sa sb inp wt dr cur ad ss st co pl Ii Wi Vi := by
  have hR := hc.1.1.2
  exact ⟨hc, by omega, hW, hV, nf_0, ag_cp h hc.2.2.1 (by omega), hp, Or.inl rfl, Or.inl rfl⟩
end
theorem i_up {k : Nat} {u : SX} {v : SY} (h : i_Rel k u v) : i_Rel (k + 5) u v := h
theorem i_vc_modulus {k : Nat} {u : SX} {v : SY} (I : i_Rel k u v) (hk : k + 5 ≤ 2564) : wpX_modulus (fun r => wpY_modulus (fun r' => r' = r ∧ i_Rel (k + 5) u v) v) u := by
  refine re_e (Z := fun u v => wpX_modulus (fun r => wpY_modulus (fun r' => r' = r ∧ i_Rel (k + 5) u v) v) u) I ?_
  intro R Q M P L N q sc sp tp fl sw ops dst sa sb inp wt dr cur rg tn rx ry ad ss st co pl yr yt yu yb Ii Wi Vi hfa
  obtain ⟨hc, hN, ⟨hW, hWr⟩, ⟨hV, hVr⟩, hnf, hcur, hp, hfl, hsw⟩ := id hfa
  exact And.intro rfl (re_i hfa)
theorem i_vc_length {k : Nat} {u : SX} {v : SY} (I : i_Rel k u v) (hk : k + 5 ≤ 2564) : wpX_length (fun r => wpY_length (fun r' => r' = r ∧ i_Rel (k + 5) u v) v) u := by
  refine re_e (Z := fun u v => wpX_length (fun r => wpY_length (fun r' => r' = r ∧ i_Rel (k + 5) u v) v) u) I ?_
  intro R Q M P L N q sc sp tp fl sw ops dst sa sb inp wt dr cur rg tn rx ry ad ss st co pl yr yt yu yb Ii Wi Vi hfa
  obtain ⟨hc, hN, ⟨hW, hWr⟩, ⟨hV, hVr⟩, hnf, hcur, hp, hfl, hsw⟩ := id hfa
  exact And.intro rfl (re_i hfa)
theorem i_vc_steps {k : Nat} {u : SX} {v : SY} (I : i_Rel k u v) (hk : k + 5 ≤ 2564) : wpX_steps (fun r => wpY_steps (fun r' => r' = r ∧ i_Rel (k + 5) u v) v) u := by
  refine re_e (Z := fun u v => wpX_steps (fun r => wpY_steps (fun r' => r' = r ∧ i_Rel (k + 5) u v) v) u) I ?_
  intro R Q M P L N q sc sp tp fl sw ops dst sa sb inp wt dr cur rg tn rx ry ad ss st co pl yr yt yu yb Ii Wi Vi hfa
  obtain ⟨hc, hN, ⟨hW, hWr⟩, ⟨hV, hVr⟩, hnf, hcur, hp, hfl, hsw⟩ := id hfa
  exact And.intro rfl (re_i hfa)
theorem i_vc_faultAt {k : Nat} {u : SX} {v : SY} (I : i_Rel k u v) (hk : k + 5 ≤ 2564) : wpX_faultAt (fun r => wpY_faultAt (fun r' => r' = r ∧ i_Rel (k + 5) u v) v) u := by
  refine re_e (Z := fun u v => wpX_faultAt (fun r => wpY_faultAt (fun r' => r' = r ∧ i_Rel (k + 5) u v) v) u) I ?_
  intro R Q M P L N q sc sp tp fl sw ops dst sa sb inp wt dr cur rg tn rx ry ad ss st co pl yr yt yu yb Ii Wi Vi hfa
  obtain ⟨hc, hN, ⟨hW, hWr⟩, ⟨hV, hVr⟩, hnf, hcur, hp, hfl, hsw⟩ := id hfa
  exact And.intro rfl (re_i hfa)
theorem i_vc_rewind {k : Nat} {u : SX} {v : SY} (I : i_Rel k u v) (hk : k + 5 ≤ 2564) : wpX_rewind (fun u' => wpY_rewind (fun v' => i_Rel (k + 5) u' v') v) u := by
  refine re_e (Z := fun u v => wpX_rewind (fun u' => wpY_rewind (fun v' => i_Rel (k + 5) u' v') v) u) I ?_
  intro R Q M P L N q sc sp tp fl sw ops dst sa sb inp wt dr cur rg tn rx ry ad ss st co pl yr yt yu yb Ii Wi Vi hfa
  obtain ⟨hc, hN, ⟨hW, hWr⟩, ⟨hV, hVr⟩, hnf, hcur, hp, hfl, hsw⟩ := id hfa
  have hR := hc.1.1.2
  unfold wpX_rewind
  dsimp only
  exact x_dis hR (fun c' g => re_i (k := k + 5) (fa_0 hc ⟨hW, hWr⟩ ⟨hV, hVr⟩ hp g))
theorem i_vc_position {k : Nat} {u : SX} {v : SY} (I : i_Rel k u v) (hk : k + 5 ≤ 2564) : wpX_position (fun r => wpY_position (fun r' => r' = r ∧ i_Rel (k + 5) u v) v) u := by
  refine re_e (Z := fun u v => wpX_position (fun r => wpY_position (fun r' => r' = r ∧ i_Rel (k + 5) u v) v) u) I ?_
  intro R Q M P L N q sc sp tp fl sw ops dst sa sb inp wt dr cur rg tn rx ry ad ss st co pl yr yt yu yb Ii Wi Vi hfa
  obtain ⟨hc, hN, ⟨hW, hWr⟩, ⟨hV, hVr⟩, hnf, hcur, hp, hfl, hsw⟩ := id hfa
  rcases hsw with rfl | ⟨rfl, h⟩
  · exact br_t rfl (br_t rfl (And.intro rfl (re_i hfa)))
  · exact br_f (by decide) (br_f (by decide) (And.intro rfl (re_i hfa)))
theorem i_vc_slots {k : Nat} {u : SX} {v : SY} (I : i_Rel k u v) (hk : k + 5 ≤ 2564) : wpX_slots (fun r => wpY_slots (fun r' => r' = r ∧ i_Rel (k + 5) u v) v) u := by
  refine re_e (Z := fun u v => wpX_slots (fun r => wpY_slots (fun r' => r' = r ∧ i_Rel (k + 5) u v) v) u) I ?_
  intro R Q M P L N q sc sp tp fl sw ops dst sa sb inp wt dr cur rg tn rx ry ad ss st co pl yr yt yu yb Ii Wi Vi hfa
  obtain ⟨hc, hN, ⟨hW, hWr⟩, ⟨hV, hVr⟩, hnf, hcur, hp, hfl, hsw⟩ := id hfa
  rcases hsw with rfl | ⟨rfl, h⟩
  · exact br_t rfl (br_t rfl (And.intro rfl (re_i hfa)))
  · exact br_f (by decide) (br_f (by decide) (And.intro rfl (re_i hfa)))
theorem i_vc_code {k : Nat} {u : SX} {v : SY} (I : i_Rel k u v) (hk : k + 5 ≤ 2564) (v1 : Int32) (v2 : Int32) : wpX_code (fun r => wpY_code (fun r' => r' = r ∧ i_Rel (k + 5) u v) v v1 v2) u v1 v2 := by
  refine re_e (Z := fun u v => wpX_code (fun r => wpY_code (fun r' => r' = r ∧ i_Rel (k + 5) u v) v v1 v2) u v1 v2) I ?_
  intro R Q M P L N q sc sp tp fl sw ops dst sa sb inp wt dr cur rg tn rx ry ad ss st co pl yr yt yu yb Ii Wi Vi hfa
  obtain ⟨hc, hN, ⟨hW, hWr⟩, ⟨hV, hVr⟩, hnf, hcur, hp, hfl, hsw⟩ := id hfa
  have hL := hc.1.2.2.2.2
  have F := re_i (k := k + 5) (rg := rg) (tn := tn) (rx := rx) (ry := ry) (yr := yr) (yt := yt) (yu := yu) (yb := yb) hfa
  by_cases h1 : v1 < 0
  · exact br_t h1 (br_t h1 (And.intro rfl F))
  obtain ⟨i, hi, rfl⟩ := nI_of h1
  by_cases h2 : nI i < nI L
  · have h3 : i < L := (nI_ltI hi (by omega)).mp h2
    have hin : vp_in (nI i) 8 := vp_in_nI (by omega) (by omega)
    refine br_f h1 (br_t h2 ?_)
    by_cases k1 : v2 < 0
    · exact br_t k1 (br_f h1 (br_t h2 (br_t k1 (And.intro rfl F))))
    by_cases k2 : v2 ≤ 3
    · have k3 : ¬ (3 : Int32) < v2 := Int32.not_lt.mpr k2
      refine br_f k1 (br_f k3 ?_)
      obtain ⟨f, hf, rfl⟩ := nI_of2 (n := 3) (by decide) k1 k2
      have hf4 : f = 0 ∨ f = 1 ∨ f = 2 ∨ f = 3 := by omega
      rcases hf4 with rfl | rfl | rfl | rfl
      · exact br_t (by decide) (And.intro hin (br_f h1 (br_t h2 (br_f k1 (br_t k2 (br_t (by decide) (And.intro hin (And.intro rfl F))))))))
      · exact br_f (by decide) (br_t (by decide) (And.intro hin (br_f h1 (br_t h2 (br_f k1 (br_t k2 (br_f (by decide) (br_t (by decide) (And.intro hin (And.intro rfl F))))))))))
      · exact br_f (by decide) (br_f (by decide) (br_t (by decide) (And.intro hin (br_f h1 (br_t h2 (br_f k1 (br_t k2 (br_f (by decide) (br_f (by decide) (br_t (by decide) (And.intro hin (And.intro rfl F))))))))))))
      · exact br_f (by decide) (br_f (by decide) (br_f (by decide) (br_t (by decide) (And.intro hin (br_f h1 (br_t h2 (br_f k1 (br_t k2 (br_f (by decide) (br_f (by decide) (br_f (by decide) (And.intro hin (And.intro rfl F)))))))))))))
    · have k3 : (3 : Int32) < v2 := Int32.not_le.mp k2
      exact br_f k1 (br_t k3 (br_f h1 (br_t h2 (br_f k1 (br_f k2 (And.intro rfl F))))))
  · exact br_f h1 (br_f h2 (br_f h1 (br_f h2 (And.intro rfl F))))
end
section
/-! the owed calls: run, value, tangent, sums, the sweep, prices -/
section
variable {R Q M P L N q sc sp tp : Nat} {fl sw : Int32} {ops dst sa sb inp wt dr cur rg tn rx ry ad ss st co pl yr yt yu yb : Nat → Int32} {Ii Wi Vi : Nat → Int}
theorem y_rg0 {post : Int32 → Prop} {p : Int32} (h : p < 0 ∨ ¬ p < nI R) (K : post 0) : wpY_isReg post (nI R, nI Q, nI M, nI P, nI L, nI N, fl, sw, nI q, nI sc, ops, dst, sa, sb, inp, wt, dr, yr, yt, yu, yb) p := by
  by_cases c : p < 0
  · exact br_t c K
  · rcases h with h | h
    · exact absurd h c
    · exact br_f c (br_t (Int32.not_lt.mp h) K)
theorem z_s0 (f : Nat → Int) : zI (sm 0 f % (P : Int)) = 0 := by
  rw [sm, Int.zero_emod]; rfl
theorem y_g78 {post : Int32 → SY → Prop} {t u : Nat → Int} (hc : cx R Q M P L ops dst sa sb inp Ii) (hW : ag 6 wt Wi) (hWr : rn P 6 Wi) (hN : N ≤ 32) (hq : q ≤ N) (hn : nf P R L ops dst sa sb Ii N) (hx : ag R yr (XX P R L ops dst sa sb Ii q)) (ht : ag R yt t) (htr : rn P R t) (hu : ag Q yu u) (hur : rn P Q u) (K : ∀ a' b', post (zI (sm R (fun k => Wi k * TT P R L ops dst sa sb Ii u (N - q) q t k) % P)) (nI R, nI Q, nI M, nI P, nI L, nI N, fl, sw, nI q, nI sc, ops, dst, sa, sb, inp, wt, dr, a', b', yu, yb)) : wY_gradient_78 post (nI R) (nI Q) (nI M) (nI P) (nI L) (nI N) fl sw (nI q) (nI sc) ops dst sa sb inp wt dr yr yt yu yb := by
  unfold wY_gradient_78
  rw [nI_1 q]
  refine y_play (c := q) (e := N) hc hur hu hq hN hn hx ht htr (fun a' b' k1 k2 => Exists.intro (R + 1) ?_)
  have G := y_g97 (post := post) (M := M) (Q := Q) (L := L) (N := N) (q := q) (sc := sc) (fl := fl) (sw := sw) (ops := ops) (dst := dst) (sa := sa) (sb := sb) (inp := inp) (dr := dr) (yr := a') (yu := yu) (yb := yb) hc.1.2.2.2.1 hc.1.1.2 hW hWr k2 (TT_rn hc.1 hc.2.1 hur (N - q) q t htr) (K a' b') R 0 (by omega) (R + 1) (by omega)
  rw [z_s0] at G
  exact G
end
theorem dt_u {R Q e : Nat} {A t u : Nat → Int} {w : Int} (he : e < Q) : dt R Q A t (ui u e w) = dt R Q A t u + A (R + e) * (w - u e) := by
  rw [dt, dt, sm_o (f := fun j => A (R + j) * ui u e w j) (g := fun j => A (R + j) * u j) (d := e) (fun j hj => by show A (R + j) * ui u e w j = A (R + j) * u j; rw [ui_n hj]) Q he]
  show _ + (_ + (A (R + e) * ui u e w e - A (R + e) * u e)) = _
  rw [ui_s, Int.mul_sub]; omega
theorem dt_0 {R Q : Nat} {A : Nat → Int} : dt R Q A (fun _ => 0) (fun _ => 0) = 0 := by
  rw [dt, sm_z R (fun i _ => Int.mul_zero _), sm_z Q (fun i _ => Int.mul_zero _)]; rfl
theorem i_vc_run {k : Nat} {u : SX} {v : SY} (I : i_Rel k u v) (hk : k + 5 ≤ 2564) (v1 : Int32) : wpX_run (fun r u' => wpY_run (fun r' v' => r' = r ∧ i_Rel (k + 5) u' v') v v1) u v1 := by
  refine re_e (Z := fun u v => wpX_run (fun r u' => wpY_run (fun r' v' => r' = r ∧ i_Rel (k + 5) u' v') v v1) u v1) I ?_
  intro R Q M P L N q sc sp tp fl sw ops dst sa sb inp wt dr cur rg tn rx ry ad ss st co pl yr yt yu yb Ii Wi Vi hfa
  obtain ⟨hc, hN, ⟨hW, hWr⟩, ⟨hV, hVr⟩, hnf, hcur, hp, hfl, hsw⟩ := id hfa
  have F := re_i (k := k + 5) (rg := rg) (tn := tn) (rx := rx) (ry := ry) (yr := yr) (yt := yt) (yu := yu) (yb := yb) hfa
  by_cases h1 : v1 < 1
  · exact br_t h1 (br_t h1 (And.intro rfl F))
  obtain ⟨n, hn, rfl⟩ := nI_of (x := v1) (fun c => h1 (Int32.lt_trans c (by decide)))
  by_cases h2 : nI n ≤ 32 - nI N
  · have e : (32 : Int32) - nI N = nI (32 - N) := pk_sub (a := 32) hN
    have h3 : n ≤ 32 - N := by rw [e] at h2; exact (nI_leI hn (by omega)).mp h2
    rcases hfl with rfl | ⟨j, hj, rfl⟩
    · obtain ⟨m, f, hro⟩ := ro_ex (P := P) (R := R) (L := L) (ops := ops) (dst := dst) (sa := sa) (sb := sb) (Ii := Ii) n N hnf
      refine br_f h1 (br_t h2 (br_t (by decide) (Exists.intro (R + 1) (x_r36 (sw := 0) hc hro (by omega) hcur (fun c' r' g => ?_) R 0 rg (by omega) cp_0 (R + 1) (by omega)))))
      refine br_f h1 (br_t h2 (br_t (by decide) (Exists.intro (n + 2) (y_r36 (sw := 0) hc m N 0 n yr yt yu hnf hro (by omega) (by omega) (by omega) (fun a' b' c2 => ?_) (n + 2) (by omega)))))
      rw [Nat.zero_add]
      refine And.intro rfl (re_i ⟨hc, by have := hro.1; omega, ⟨hW, hWr⟩, ⟨hV, hVr⟩, hro.2.1, g, hp, ?_, Or.inl rfl⟩)
      have hL := hc.1.2.2.2.2
      rcases hro.2.2 with ⟨_, z⟩ | ⟨_, j0, z1, _, _, z2⟩
      · exact Or.inl z
      · exact Or.inr ⟨j0, by omega, z2⟩
    · have z : ¬ nI j < 0 := nI_pos (by omega)
      exact br_f h1 (br_t h2 (br_f z (br_f h1 (br_t h2 (br_f z (And.intro rfl F))))))
  · exact br_f h1 (br_f h2 (br_f h1 (br_f h2 (And.intro rfl F))))
theorem i_vc_value {k : Nat} {u : SX} {v : SY} (I : i_Rel k u v) (hk : k + 5 ≤ 2564) (v1 : Int32) (v2 : Int32) : wpX_value (fun r u' => wpY_value (fun r' v' => r' = r ∧ i_Rel (k + 5) u' v') v v1 v2) u v1 v2 := by
  refine re_e (Z := fun u v => wpX_value (fun r u' => wpY_value (fun r' v' => r' = r ∧ i_Rel (k + 5) u' v') v v1 v2) u v1 v2) I ?_
  intro R Q M P L N q sc sp tp fl sw ops dst sa sb inp wt dr cur rg tn rx ry ad ss st co pl yr yt yu yb Ii Wi Vi hfa
  obtain ⟨hc, hN, ⟨hW, hWr⟩, ⟨hV, hVr⟩, hnf, hcur, hp, hfl, hsw⟩ := id hfa
  have F := re_i (k := k + 5) (rg := rg) (tn := tn) (rx := rx) (ry := ry) (yr := yr) (yt := yt) (yu := yu) (yb := yb) hfa
  have hR := hc.1.1.2
  by_cases h1 : v1 < 0
  · exact br_t h1 (br_t h1 (And.intro rfl F))
  by_cases h2 : v1 ≤ nI N
  · by_cases h3 : v2 < 0
    · exact br_f h1 (br_t h2 (br_t h3 (br_f h1 (br_t h2 (y_rg0 (Or.inl h3) (br_t rfl (And.intro rfl F)))))))
    by_cases h4 : v2 < nI R
    · obtain ⟨s, hs, rfl⟩ := nI_of h1
      obtain ⟨i, hi, rfl⟩ := nI_of h3
      have h5 : s ≤ N := (nI_leI hs (by omega)).mp h2
      have h6 : i < R := (nI_ltI hi (by omega)).mp h4
      exact x_val hc hN h5 h6 hnf hcur (fun a' => y_val hc hN h5 h6 hnf (fun a2 b2 c2 => And.intro rfl (re_i hfa)))
    · exact br_f h1 (br_t h2 (br_f h3 (br_f h4 (br_f h1 (br_t h2 (y_rg0 (Or.inr h4) (br_t rfl (And.intro rfl F))))))))
  · exact br_f h1 (br_f h2 (br_f h1 (br_f h2 (And.intro rfl F))))
theorem i_vc_tangent {k : Nat} {u : SX} {v : SY} (I : i_Rel k u v) (hk : k + 5 ≤ 2564) (v1 : Int32) (v2 : Int32) : wpX_tangent (fun r u' => wpY_tangent (fun r' v' => r' = r ∧ i_Rel (k + 5) u' v') v v1 v2) u v1 v2 := by
  refine re_e (Z := fun u v => wpX_tangent (fun r u' => wpY_tangent (fun r' v' => r' = r ∧ i_Rel (k + 5) u' v') v v1 v2) u v1 v2) I ?_
  intro R Q M P L N q sc sp tp fl sw ops dst sa sb inp wt dr cur rg tn rx ry ad ss st co pl yr yt yu yb Ii Wi Vi hfa
  obtain ⟨hc, hN, ⟨hW, hWr⟩, ⟨hV, hVr⟩, hnf, hcur, hp, hfl, hsw⟩ := id hfa
  have F := re_i (k := k + 5) (rg := rg) (tn := tn) (rx := rx) (ry := ry) (yr := yr) (yt := yt) (yu := yu) (yb := yb) hfa
  have hR := hc.1.1.2
  by_cases h1 : v1 < 0
  · exact br_t h1 (br_t h1 (And.intro rfl F))
  by_cases h2 : v1 ≤ nI N
  · by_cases h3 : v2 < 0
    · exact br_f h1 (br_t h2 (br_t h3 (br_f h1 (br_t h2 (y_rg0 (Or.inl h3) (br_t rfl (And.intro rfl F)))))))
    by_cases h4 : v2 < nI R
    · obtain ⟨s, hs, rfl⟩ := nI_of h1
      obtain ⟨i, hi, rfl⟩ := nI_of h3
      have h5 : s ≤ N := (nI_leI hs (by omega)).mp h2
      have h6 : i < R := (nI_ltI hi (by omega)).mp h4
      exact x_tan hc hV hVr hN h5 h6 hnf (fun a' b' => y_tan hc hV hVr hN h5 h6 hnf (fun a2 b2 c2 => And.intro rfl (re_i hfa)))
    · exact br_f h1 (br_t h2 (br_f h3 (br_f h4 (br_f h1 (br_t h2 (y_rg0 (Or.inr h4) (br_t rfl (And.intro rfl F))))))))
  · exact br_f h1 (br_f h2 (br_f h1 (br_f h2 (And.intro rfl F))))
theorem i_vc_objective {k : Nat} {u : SX} {v : SY} (I : i_Rel k u v) (hk : k + 5 ≤ 2564) : wpX_objective (fun r => wpY_objective (fun r' v' => r' = r ∧ i_Rel (k + 5) u v') v) u := by
  refine re_e (Z := fun u v => wpX_objective (fun r => wpY_objective (fun r' v' => r' = r ∧ i_Rel (k + 5) u v') v) u) I ?_
  intro R Q M P L N q sc sp tp fl sw ops dst sa sb inp wt dr cur rg tn rx ry ad ss st co pl yr yt yu yb Ii Wi Vi hfa
  obtain ⟨hc, hN, ⟨hW, hWr⟩, ⟨hV, hVr⟩, hnf, hcur, hp, hfl, hsw⟩ := id hfa
  have hR := hc.1.1.2
  refine Exists.intro (R + 1) (x_ob hc.1.2.2.2.1 hR hW hWr hcur (cx_x hc N) ?_ R 0 (by omega) (R + 1) (by omega))
  refine Exists.intro (R + 1) ?_
  have G := y_ob (post := fun r' v' => r' = zI (sm R (fun k => Wi k * XX P R L ops dst sa sb Ii N k) % P) ∧ i_Rel (k + 5) (nI R, nI Q, nI M, nI P, nI L, nI N, fl, sw, nI q, nI sc, nI sp, nI tp, ops, dst, sa, sb, inp, wt, dr, cur, rg, tn, rx, ry, ad, ss, st, co, pl) v') (fl := fl) (sw := sw) (q := q) (sc := sc) (dr := dr) (yb := yb) hc hW hWr hN hnf (fun a' b' c' => And.intro rfl (re_i hfa)) R 0 yr yt yu (by omega) (R + 1) (by omega)
  rw [z_s0] at G
  exact G
theorem i_vc_directional {k : Nat} {u : SX} {v : SY} (I : i_Rel k u v) (hk : k + 5 ≤ 2564) : wpX_directional (fun r u' => wpY_directional (fun r' v' => r' = r ∧ i_Rel (k + 5) u' v') v) u := by
  refine re_e (Z := fun u v => wpX_directional (fun r u' => wpY_directional (fun r' v' => r' = r ∧ i_Rel (k + 5) u' v') v) u) I ?_
  intro R Q M P L N q sc sp tp fl sw ops dst sa sb inp wt dr cur rg tn rx ry ad ss st co pl yr yt yu yb Ii Wi Vi hfa
  obtain ⟨hc, hN, ⟨hW, hWr⟩, ⟨hV, hVr⟩, hnf, hcur, hp, hfl, hsw⟩ := id hfa
  have hR := hc.1.1.2
  have hQ := hc.1.2.1.2
  unfold wpX_directional
  dsimp only
  refine x_dual hc hV hVr hN hnf (fun a' b' g => Exists.intro (R + 1) ?_)
  refine x_di hc.1.2.2.2.1 hR hW hWr g (TT_rn hc.1 hc.2.1 (fun j hj => hVr (R + j) (by omega)) N 0 Vi (rn_m hVr (by omega))) ?_ R 0 (by omega) (R + 1) (by omega)
  refine Exists.intro (R + 1) ?_
  have G := y_di (post := fun r' v' => r' = zI (sm R (fun k => Wi k * TT P R L ops dst sa sb Ii (fun i => Vi (R + i)) N 0 Vi k) % P) ∧ i_Rel (k + 5) (nI R, nI Q, nI M, nI P, nI L, nI N, fl, sw, nI q, nI sc, nI sp, nI tp, ops, dst, sa, sb, inp, wt, dr, cur, a', b', rx, ry, ad, ss, st, co, pl) v') (fl := fl) (sw := sw) (q := q) (sc := sc) (yb := yb) hc hW hWr hV hVr hN hnf (fun a' b' c' => And.intro rfl (re_i hfa)) R 0 yr yt yu (by omega) (R + 1) (by omega)
  rw [z_s0] at G
  exact G
theorem i_vc_beginSweep {k : Nat} {u : SX} {v : SY} (I : i_Rel k u v) (hk : k + 5 ≤ 2564) (v1 : Int32) : wpX_beginSweep (fun r u' => wpY_beginSweep (fun r' v' => r' = r ∧ i_Rel (k + 5) u' v') v v1) u v1 := by
  refine re_e (Z := fun u v => wpX_beginSweep (fun r u' => wpY_beginSweep (fun r' v' => r' = r ∧ i_Rel (k + 5) u' v') v v1) u v1) I ?_
  intro R Q M P L N q sc sp tp fl sw ops dst sa sb inp wt dr cur rg tn rx ry ad ss st co pl yr yt yu yb Ii Wi Vi hfa
  obtain ⟨hc, hN, ⟨hW, hWr⟩, ⟨hV, hVr⟩, hnf, hcur, hp, hfl, hsw⟩ := id hfa
  have F := re_i (k := k + 5) (rg := rg) (tn := tn) (rx := rx) (ry := ry) (yr := yr) (yt := yt) (yu := yu) (yb := yb) hfa
  have hR := hc.1.1.2
  have hQ := hc.1.2.1.2
  have hM := hc.1.2.2.1.2
  by_cases h1 : v1 < 1
  · exact br_t h1 (br_t h1 (And.intro rfl F))
  obtain ⟨c, hcb, rfl⟩ := nI_of (x := v1) (fun c => h1 (Int32.lt_trans c (by decide)))
  have h1' : 1 ≤ c := by
    rcases Nat.lt_or_ge c 1 with z | z
    · exact absurd (nI_lt (b := 1) z (by omega)) h1
    · exact z
  by_cases h2 : nI c ≤ nI M
  · have h3 : c ≤ M := (nI_leI hcb (by omega)).mp h2
    refine br_f h1 (br_t h2 (Exists.intro (R + 1) (x_b41 (sw := 1) (q := N) (sc := c) (sp := 0) hR hQ (fun ad' r' st' a1 a2 a3 a4 => ?_) R 0 ad (by omega) cp_0 (R + 1) (by omega))))
    exact br_f h1 (br_t h2 (And.intro rfl (re_i (tp := 0) (sp := 0) ⟨hc, hN, ⟨hW, hWr⟩, ⟨hV, hVr⟩, hnf, hcur, hp, hfl, Or.inr ⟨rfl, sq_0 hc hW hWr h1' h3 a1 a2 a3 a4⟩⟩)))
  · exact br_f h1 (br_f h2 (br_f h1 (br_f h2 (And.intro rfl F))))
theorem i_vc_back {k : Nat} {u : SX} {v : SY} (I : i_Rel k u v) (hk : k + 5 ≤ 2564) (v1 : Int32) : wpX_back (fun r u' => wpY_back (fun r' v' => r' = r ∧ i_Rel (k + 5) u' v') v v1) u v1 := by
  refine re_e (Z := fun u v => wpX_back (fun r u' => wpY_back (fun r' v' => r' = r ∧ i_Rel (k + 5) u' v') v v1) u v1) I ?_
  intro R Q M P L N q sc sp tp fl sw ops dst sa sb inp wt dr cur rg tn rx ry ad ss st co pl yr yt yu yb Ii Wi Vi hfa
  obtain ⟨hc, hN, ⟨hW, hWr⟩, ⟨hV, hVr⟩, hnf, hcur, hp, hfl, hsw⟩ := id hfa
  have F := re_i (k := k + 5) (rg := rg) (tn := tn) (rx := rx) (ry := ry) (yr := yr) (yt := yt) (yu := yu) (yb := yb) hfa
  rcases hsw with rfl | ⟨rfl, h⟩
  · exact br_t rfl (br_t rfl (And.intro rfl F))
  have hs : ¬ (1 : Int32) = 0 := by decide
  have hq := h.1
  by_cases h1 : v1 < 1
  · exact br_f hs (br_t h1 (br_f hs (br_t h1 (And.intro rfl F))))
  obtain ⟨c, hcb, rfl⟩ := nI_of (x := v1) (fun c => h1 (Int32.lt_trans c (by decide)))
  by_cases h2 : nI c ≤ nI q
  · have h3 : c ≤ q := (nI_leI hcb (by omega)).mp h2
    obtain ⟨e, rfl⟩ : ∃ e, q = e + c := ⟨q - c, by omega⟩
    refine br_f hs (br_f h1 (br_t h2 (Exists.intro (c + 1) (x_b28 (e := e) hc hN hnf hp (by omega) (fun sp' tp' r' x' y' ad' ss' st' g => ?_) c 0 sp tp rg rx ry ad ss st (by omega) h (c + 1) (by omega)))))
    refine br_f hs (br_f h1 (br_t h2 (nm_r (e' := nI e) ?_ (And.intro rfl (re_i ⟨hc, hN, ⟨hW, hWr⟩, ⟨hV, hVr⟩, hnf, hcur, hp, hfl, Or.inr ⟨rfl, g⟩⟩)))))
    rw [pk_sub (by omega), Nat.add_sub_cancel]
  · exact br_f hs (br_f h1 (br_f h2 (br_f hs (br_f h1 (br_f h2 (And.intro rfl F))))))
theorem i_vc_gradient {k : Nat} {u : SX} {v : SY} (I : i_Rel k u v) (hk : k + 5 ≤ 2564) (v1 : Int32) : wpX_gradient (fun r => wpY_gradient (fun r' v' => r' = r ∧ i_Rel (k + 5) u v') v v1) u v1 := by
  refine re_e (Z := fun u v => wpX_gradient (fun r => wpY_gradient (fun r' v' => r' = r ∧ i_Rel (k + 5) u v') v v1) u v1) I ?_
  intro R Q M P L N q sc sp tp fl sw ops dst sa sb inp wt dr cur rg tn rx ry ad ss st co pl yr yt yu yb Ii Wi Vi hfa
  obtain ⟨hc, hN, ⟨hW, hWr⟩, ⟨hV, hVr⟩, hnf, hcur, hp, hfl, hsw⟩ := id hfa
  have F := re_i (k := k + 5) (rg := rg) (tn := tn) (rx := rx) (ry := ry) (yr := yr) (yt := yt) (yu := yu) (yb := yb) hfa
  have hR := hc.1.1.2
  have hQ := hc.1.2.1.2
  have hP := pP_b hc.1.2.2.2.1
  rcases hsw with rfl | ⟨rfl, h⟩
  · exact br_t rfl (br_t rfl (And.intro rfl F))
  have hs : ¬ (1 : Int32) = 0 := by decide
  by_cases h1 : v1 < 0
  · exact br_f hs (br_t h1 (br_f hs (br_t h1 (And.intro rfl F))))
  obtain ⟨i, hi, rfl⟩ := nI_of h1
  by_cases h2 : nI i < nI R + nI Q
  · have h3 : i < R + Q := by rw [nI_add] at h2; exact (nI_ltI hi (by omega)).mp h2
    obtain ⟨q1, q2, q3, q4, _, A, g, hr, hm⟩ := h
    refine br_f hs (br_f h1 (br_t h2 (And.intro (vp_in_nI (by omega) (by omega)) ?_)))
    rw [nI_clamp (by omega), g i h3]
    refine br_f hs (br_f h1 (br_t h2 (y_load hR (fun r' a' b' g1 g2 g3 => ?_))))
    refine y_play (c := 0) (e := q) (t := fun _ => 0) (u := fun _ => 0) hc (rn_0 (by omega)) (z0_ag g3 hQ) (Nat.zero_le q) (by omega) (nf_m hnf q1) (ag_cp g1 hc.2.2.1 (by omega)) (z0_ag g2 hR) (rn_0 (by omega)) (fun a2 b2 k1 k2 => y_clr (fun a3 b3 z1 z2 => ?_))
    have law : ∀ t u, dt R Q A t u = A i → zI (sm R (fun k => Wi k * TT P R L ops dst sa sb Ii u (N - q) q t k) % P) = zI (A i) := by
      intro t u e
      have m := md_t (md_q P _) (hm t u)
      rw [e] at m
      rw [md_u m (zr_b _ (by omega)) (hr i h3)]
    refine pk_le R i (fun c => ?_) (fun c => ?_)
    · obtain ⟨e, rfl⟩ : ∃ e, i = R + e := ⟨i - R, by omega⟩
      rw [pk_sub c, Nat.add_sub_cancel_left, nI_clamp (by omega)]
      refine And.intro (vp_in_nI (by omega) (by omega)) (nm_e (y_g78 (t := fun _ => 0) (u := ui (fun _ => 0) e 1) hc hW hWr hN q1 hnf k1 (z0_ag z1 hR) (rn_0 (by omega)) (ag_u (z0_ag z2 hQ) zI_1.symm) (rn_u (rn_0 (by omega)) (by omega)) (fun a4 b4 => ?_)))
      refine And.intro (law _ _ ?_) (re_i hfa)
      rw [dt_u (by omega), dt_0]; omega
    · rw [nI_clamp (by omega)]
      refine And.intro (vp_in_nI (by omega) (by omega)) (nm_e (y_g78 (t := ui (fun _ => 0) i 1) (u := fun _ => 0) hc hW hWr hN q1 hnf k1 (ag_u (z0_ag z1 hR) zI_1.symm) (rn_u (rn_0 (by omega)) (by omega)) (z0_ag z2 hQ) (rn_0 (by omega)) (fun a4 b4 => ?_)))
      refine And.intro (law _ _ ?_) (re_i hfa)
      rw [dt_t c, dt_0]; omega
  · exact br_f hs (br_f h1 (br_f h2 (br_f hs (br_f h1 (br_f h2 (And.intro rfl F))))))
theorem i_vc_advances {k : Nat} {u : SX} {v : SY} (I : i_Rel k u v) (hk : k + 5 ≤ 2564) : wpX_advances (fun r => wpY_advances (fun r' v' => r' = r ∧ i_Rel (k + 5) u v') v) u := by
  refine re_e (Z := fun u v => wpX_advances (fun r => wpY_advances (fun r' v' => r' = r ∧ i_Rel (k + 5) u v') v) u) I ?_
  intro R Q M P L N q sc sp tp fl sw ops dst sa sb inp wt dr cur rg tn rx ry ad ss st co pl yr yt yu yb Ii Wi Vi hfa
  obtain ⟨hc, hN, ⟨hW, hWr⟩, ⟨hV, hVr⟩, hnf, hcur, hp, hfl, hsw⟩ := id hfa
  have F := re_i (k := k + 5) (rg := rg) (tn := tn) (rx := rx) (ry := ry) (yr := yr) (yt := yt) (yu := yu) (yb := yb) hfa
  have hM := hc.1.2.2.1.2
  rcases hsw with rfl | ⟨rfl, h⟩
  · exact br_t rfl (br_t rfl (And.intro rfl F))
  have hs : ¬ (1 : Int32) = 0 := by decide
  obtain ⟨q1, q2, q3, q4, ⟨S, g1, g2, g3⟩, _⟩ := h
  by_cases h2 : q = 0
  · subst h2
    have hq : nI 0 ≤ (0 : Int32) := by decide
    refine br_f hs (br_t hq (br_f hs (br_t hq (y_cost hN q2 (by omega) (fun yb' => And.intro ?_ (re_i hfa))))))
    obtain rfl : tp = 0 := by omega
    rw [Nat.sub_zero, Nat.zero_sub, (pT_0 sc (by omega)).1] at g3
    have g3 : sp + 0 + 0 = pT N sc := g3
    exact congrArg nI (by omega)
  · have hq : ¬ nI q ≤ 0 := nI_nle (by omega) (by omega)
    exact br_f hs (br_f hq (br_f hs (br_f hq (And.intro rfl F))))
theorem i_vc_price {k : Nat} {u : SX} {v : SY} (I : i_Rel k u v) (hk : k + 5 ≤ 2564) (v1 : Int32) (v2 : Int32) : wpX_price (fun r => wpY_price (fun r' v' => r' = r ∧ i_Rel (k + 5) u v') v v1 v2) u v1 v2 := by
  refine re_e (Z := fun u v => wpX_price (fun r => wpY_price (fun r' v' => r' = r ∧ i_Rel (k + 5) u v') v v1 v2) u v1 v2) I ?_
  intro R Q M P L N q sc sp tp fl sw ops dst sa sb inp wt dr cur rg tn rx ry ad ss st co pl yr yt yu yb Ii Wi Vi hfa
  obtain ⟨hc, hN, ⟨hW, hWr⟩, ⟨hV, hVr⟩, hnf, hcur, hp, hfl, hsw⟩ := id hfa
  have F := re_i (k := k + 5) (rg := rg) (tn := tn) (rx := rx) (ry := ry) (yr := yr) (yt := yt) (yu := yu) (yb := yb) hfa
  have hM := hc.1.2.2.1.2
  by_cases h1 : v1 < 0
  · exact br_t h1 (br_t h1 (And.intro rfl F))
  by_cases h2 : v1 ≤ 32
  · by_cases h3 : v2 < 1
    · exact br_f h1 (br_t h2 (br_t h3 (br_f h1 (br_t h2 (br_t h3 (And.intro rfl F))))))
    by_cases h4 : v2 ≤ nI M
    · obtain ⟨n, hn, rfl⟩ := nI_of2 (n := 32) (by decide) h1 h2
      obtain ⟨c, hcb, rfl⟩ := nI_of (x := v2) (fun c => h3 (Int32.lt_trans c (by decide)))
      have h3' : 1 ≤ c := by
        rcases Nat.lt_or_ge c 1 with z | z
        · exact absurd (nI_lt (b := 1) z (by omega)) h3
        · exact z
      have h5 : c ≤ M := (nI_leI hcb (by omega)).mp h4
      refine br_f h1 (br_t h2 (br_f h3 (br_t h4 ?_)))
      rw [ix_2, nI_clamp (by omega), hp.1 n c hn h3' (by omega) (by omega)]
      exact And.intro (vp_in_nI (by omega) (by omega)) (br_f h1 (br_t h2 (br_f h3 (br_t h4 (y_cost hn h3' (by omega) (fun yb' => And.intro rfl (re_i hfa)))))))
    · exact br_f h1 (br_t h2 (br_f h3 (br_f h4 (br_f h1 (br_t h2 (br_f h3 (br_f h4 (And.intro rfl F))))))))
  · exact br_f h1 (br_f h2 (br_f h1 (br_f h2 (And.intro rfl F))))
end
section
/-! the owed calls: emit, erase, set, get -/
def ub (o : Nat) : Prop := o = 4 ∨ o = 5 ∨ o = 6 ∨ o = 8
def gd (n : Nat) (p : Int32) : Prop := ¬ p < 0 ∧ p < nI n
theorem bg_y {n : Nat} {p : Int32} {A B : Prop} (h : gd n p) (a : A) : (p < 0 → B) ∧ (¬ p < 0 → ((p < nI n → A) ∧ (¬ p < nI n → B))) := br_f h.1 (br_t h.2 a)
theorem bg_n {n : Nat} {p : Int32} {A B : Prop} (h : ¬ gd n p) (b : B) : (p < 0 → B) ∧ (¬ p < 0 → ((p < nI n → A) ∧ (¬ p < nI n → B))) := by
  by_cases c : p < 0
  · exact br_t c b
  · exact br_f c (br_f (fun d => h ⟨c, d⟩) b)
theorem gd_o {n : Nat} {p : Int32} (h : gd n p) (hn : n < 1000) : ∃ i, i < n ∧ p = nI i := by
  obtain ⟨i, hi, rfl⟩ := nI_of h.1
  exact ⟨i, (nI_ltI hi (by omega)).mp h.2, rfl⟩
def kA (P o : Nat) (p2 : Int32) : Int32 := if o = 0 then zI (p2.toInt % P) else if o = 2 then 0 else p2
theorem up2 {f : Nat → Int32} {k : Nat} {x y : Int32} : upd (upd f k x) k y = upd f k y := by
  funext j
  by_cases c : j = k
  · subst c; rw [pk_us, pk_us]
  · rw [pk_un c, pk_un c, pk_un c]
section
variable {R Q M P L N q sc sp tp : Nat} {fl sw : Int32} {ops dst sa sb inp wt dr cur rg tn rx ry ad ss st co pl yr yt yu yb : Nat → Int32} {Ii Wi Vi : Nat → Int}
theorem x_uB {post : Int32 → Prop} {o : Nat} (ho : o ≤ 8) (h1 : ub o → post 1) (h0 : ¬ ub o → post 0) : wpX_usesB post (nI R, nI Q, nI M, nI P, nI L, nI N, fl, sw, nI q, nI sc, nI sp, nI tp, ops, dst, sa, sb, inp, wt, dr, cur, rg, tn, rx, ry, ad, ss, st, co, pl) (nI o) := by
  exact pk_eq o 4 (fun e => h1 (Or.inl e)) (fun e4 => pk_eq o 5 (fun e => h1 (Or.inr (Or.inl e))) (fun e5 => pk_eq o 6 (fun e => h1 (Or.inr (Or.inr (Or.inl e)))) (fun e6 => pk_eq o 8 (fun e => h1 (Or.inr (Or.inr (Or.inr e)))) (fun e8 => h0 (by unfold ub; omega)))))
theorem x_181 {post : Int32 → SX → Prop} {z : Int32} (hL : L < 8) (hR : R ≤ 6) (K : ∀ c', cp R c' inp → post (nI L) (nI R, nI Q, nI M, nI P, nI (L + 1), nI 0, -1, 0, nI q, nI sc, nI sp, nI tp, ops, dst, sa, upd sb L z, inp, wt, dr, c', rg, tn, rx, ry, ad, ss, st, co, pl)) : wX_emit_181 post (nI L) z (nI L) (nI R) (nI Q) (nI M) (nI P) (nI L) (nI N) fl sw (nI q) (nI sc) (nI sp) (nI tp) ops dst sa sb inp wt dr cur rg tn rx ry ad ss st co pl := by
  unfold wX_emit_181
  rw [nI_clamp (by omega)]
  exact And.intro (vp_in_nI hL (by omega)) (nm_e (nm_r (nI_1 L) (x_dis (L := L + 1) hR K)))
theorem x_133 {post : Int32 → SX → Prop} {x1 x2 x4 x5 x6 z : Int32} (hL : L < 8) (hR : R ≤ 6) (hz : (x5 = 0 ∧ z = 0) ∨ (x5 ≠ 0 ∧ z = x4)) (K : ∀ c', cp R c' inp → post (nI L) (nI R, nI Q, nI M, nI P, nI (L + 1), nI 0, -1, 0, nI q, nI sc, nI sp, nI tp, upd ops L x1, upd dst L x2, upd sa L x6, upd sb L z, inp, wt, dr, c', rg, tn, rx, ry, ad, ss, st, co, pl)) : wX_emit_133 post x1 x2 x4 x5 x6 (nI R) (nI Q) (nI M) (nI P) (nI L) (nI N) fl sw (nI q) (nI sc) (nI sp) (nI tp) ops dst sa sb inp wt dr cur rg tn rx ry ad ss st co pl := by
  unfold wX_emit_133
  rw [nI_clamp (by omega)]
  have hi : vp_in (nI L) 8 := vp_in_nI hL (by omega)
  refine And.intro hi (nm_e (And.intro hi (nm_e (And.intro hi (nm_e ?_)))))
  rcases hz with ⟨a, rfl⟩ | ⟨a, rfl⟩
  · exact br_t a (x_181 hL hR K)
  · exact br_f a (x_181 hL hR K)
theorem x_108 {post : Int32 → SX → Prop} {o : Nat} {x2 x3 x4 x5 z : Int32} (hP : pP P) (ho : o ≤ 8) (hL : L < 8) (hR : R ≤ 6) (hz : (x5 = 0 ∧ z = 0) ∨ (x5 ≠ 0 ∧ z = x4)) (K : ∀ c', cp R c' inp → post (nI L) (nI R, nI Q, nI M, nI P, nI (L + 1), nI 0, -1, 0, nI q, nI sc, nI sp, nI tp, upd ops L (nI o), upd dst L x2, upd sa L (kA P o x3), upd sb L z, inp, wt, dr, c', rg, tn, rx, ry, ad, ss, st, co, pl)) : wX_emit_108 post (nI o) x2 x3 x4 x5 (nI R) (nI Q) (nI M) (nI P) (nI L) (nI N) fl sw (nI q) (nI sc) (nI sp) (nI tp) ops dst sa sb inp wt dr cur rg tn rx ry ad ss st co pl := by
  unfold wX_emit_108
  refine pk_eq o 0 (fun e => ?_) (fun e => pk_eq o 2 (fun e2 => ?_) (fun e2 => ?_))
  · rw [kA, if_pos e] at K
    have H := x_res (post := fun r => wX_emit_133 post (nI o) x2 x4 x5 r (nI R) (nI Q) (nI M) (nI P) (nI L) (nI N) fl sw (nI q) (nI sc) (nI sp) (nI tp) ops dst sa sb inp wt dr cur rg tn rx ry ad ss st co pl) (M := M) (Q := Q) (R := R) (L := L) (N := N) (fl := fl) (sw := sw) (q := q) (sc := sc) (sp := sp) (tp := tp) (ops := ops) (dst := dst) (sa := sa) (sb := sb) (inp := inp) (wt := wt) (dr := dr) (cur := cur) (rg := rg) (tn := tn) (rx := rx) (ry := ry) (ad := ad) (ss := ss) (st := st) (co := co) (pl := pl) hP x3.le_toInt x3.toInt_lt (x_133 hL hR hz K)
    rw [zI_of] at H
    exact H
  · rw [kA, if_neg e, if_pos e2] at K
    exact x_133 hL hR hz K
  · rw [kA, if_neg e, if_neg e2] at K
    exact x_133 hL hR hz K
theorem x_79 {post : Int32 → SX → Prop} {o : Nat} {x2 x3 x4 z : Int32} (hP : pP P) (ho : o ≤ 8) (hL : L < 8) (hR : R ≤ 6) (hb : ub o → gd R x4) (hz : (ub o ∧ z = x4) ∨ (¬ ub o ∧ z = 0)) (K : ∀ c', cp R c' inp → post (nI L) (nI R, nI Q, nI M, nI P, nI (L + 1), nI 0, -1, 0, nI q, nI sc, nI sp, nI tp, upd ops L (nI o), upd dst L x2, upd sa L (kA P o x3), upd sb L z, inp, wt, dr, c', rg, tn, rx, ry, ad, ss, st, co, pl)) : wX_emit_79 post (nI o) x2 x3 x4 (nI R) (nI Q) (nI M) (nI P) (nI L) (nI N) fl sw (nI q) (nI sc) (nI sp) (nI tp) ops dst sa sb inp wt dr cur rg tn rx ry ad ss st co pl := by
  unfold wX_emit_79
  refine x_uB ho (fun u => br_f (by decide) (bg_y (hb u) (x_108 hP ho hL hR (Or.inr ⟨by decide, ?_⟩) K))) (fun u => br_t rfl (x_108 hP ho hL hR (Or.inl ⟨rfl, ?_⟩) K))
  · rcases hz with ⟨_, e⟩ | ⟨c, _⟩
    · exact e
    · exact absurd u c
  · rcases hz with ⟨c, _⟩ | ⟨_, e⟩
    · exact absurd c u
    · exact e
theorem x_79r {post : Int32 → SX → Prop} {o : Nat} {x2 x3 x4 : Int32} (ho : o ≤ 8) (hu : ub o) (hb : ¬ gd R x4) (K : post (-2) (nI R, nI Q, nI M, nI P, nI L, nI N, fl, sw, nI q, nI sc, nI sp, nI tp, ops, dst, sa, sb, inp, wt, dr, cur, rg, tn, rx, ry, ad, ss, st, co, pl)) : wX_emit_79 post (nI o) x2 x3 x4 (nI R) (nI Q) (nI M) (nI P) (nI L) (nI N) fl sw (nI q) (nI sc) (nI sp) (nI tp) ops dst sa sb inp wt dr cur rg tn rx ry ad ss st co pl := by
  unfold wX_emit_79
  exact x_uB ho (fun u => br_f (by decide) (bg_n hb K)) (fun u => absurd hu u)
theorem x_59 {post : Int32 → SX → Prop} {o : Nat} {x2 x3 x4 : Int32} (ho : o ≤ 8) (ha : 3 ≤ o → gd R x3) (K : wX_emit_79 post (nI o) x2 x3 x4 (nI R) (nI Q) (nI M) (nI P) (nI L) (nI N) fl sw (nI q) (nI sc) (nI sp) (nI tp) ops dst sa sb inp wt dr cur rg tn rx ry ad ss st co pl) : wX_emit_59 post (nI o) x2 x3 x4 (nI R) (nI Q) (nI M) (nI P) (nI L) (nI N) fl sw (nI q) (nI sc) (nI sp) (nI tp) ops dst sa sb inp wt dr cur rg tn rx ry ad ss st co pl := by
  unfold wX_emit_59
  exact pk_lt o 3 (fun _ => K) (fun c => bg_y (ha c) K)
theorem x_59r {post : Int32 → SX → Prop} {o : Nat} {x2 x3 x4 : Int32} (ho : o ≤ 8) (h3 : 3 ≤ o) (ha : ¬ gd R x3) (K : post (-2) (nI R, nI Q, nI M, nI P, nI L, nI N, fl, sw, nI q, nI sc, nI sp, nI tp, ops, dst, sa, sb, inp, wt, dr, cur, rg, tn, rx, ry, ad, ss, st, co, pl)) : wX_emit_59 post (nI o) x2 x3 x4 (nI R) (nI Q) (nI M) (nI P) (nI L) (nI N) fl sw (nI q) (nI sc) (nI sp) (nI tp) ops dst sa sb inp wt dr cur rg tn rx ry ad ss st co pl := by
  unfold wX_emit_59
  exact pk_lt o 3 (fun c => absurd h3 (by omega)) (fun c => bg_n ha K)
theorem x_em {post : Int32 → SX → Prop} {o d : Nat} {x3 x4 : Int32} (hL : L < 8) (hR : R ≤ 6) (ho : o ≤ 8) (hd : d < R) (K1 : o = 1 → ¬ gd Q x3 → post (-2) (nI R, nI Q, nI M, nI P, nI L, nI N, fl, sw, nI q, nI sc, nI sp, nI tp, ops, dst, sa, sb, inp, wt, dr, cur, rg, tn, rx, ry, ad, ss, st, co, pl)) (K : (o = 1 → gd Q x3) → wX_emit_59 post (nI o) (nI d) x3 x4 (nI R) (nI Q) (nI M) (nI P) (nI L) (nI N) fl sw (nI q) (nI sc) (nI sp) (nI tp) ops dst sa sb inp wt dr cur rg tn rx ry ad ss st co pl) : wpX_emit post (nI R, nI Q, nI M, nI P, nI L, nI N, fl, sw, nI q, nI sc, nI sp, nI tp, ops, dst, sa, sb, inp, wt, dr, cur, rg, tn, rx, ry, ad, ss, st, co, pl) (nI o) (nI d) x3 x4 := by
  refine br_t (nI_lt (b := 8) hL (by omega)) (br_f (nI_pos (by omega)) (br_t (nI_le (b := 8) ho (by omega)) (br_f (nI_pos (by omega)) (br_t (nI_lt hd (by omega)) (pk_eq o 1 (fun e => ?_) (fun e => K (fun c => absurd c e)))))))
  by_cases c : gd Q x3
  · exact bg_y c (K (fun _ => c))
  · exact bg_n c (K1 e c)
/-- the reference -/
theorem y_rgy {post : Int32 → Prop} {p : Int32} (h : gd R p) (K : post 1) : wpY_isReg post (nI R, nI Q, nI M, nI P, nI L, nI N, fl, sw, nI q, nI sc, ops, dst, sa, sb, inp, wt, dr, yr, yt, yu, yb) p := br_f h.1 (br_f (Int32.not_le.mpr h.2) K)
theorem y_rgn {post : Int32 → Prop} {p : Int32} (h : ¬ gd R p) (K : post 0) : wpY_isReg post (nI R, nI Q, nI M, nI P, nI L, nI N, fl, sw, nI q, nI sc, ops, dst, sa, sb, inp, wt, dr, yr, yt, yu, yb) p := by
  by_cases c : p < 0
  · exact br_t c K
  · exact br_f c (br_t (Int32.not_lt.mp (fun d => h ⟨c, d⟩)) K)
theorem y_199 {post : Int32 → SY → Prop} {z : Int32} (hL : L < 8) (K : post (nI L) (nI R, nI Q, nI M, nI P, nI (L + 1), nI 0, -1, 0, nI q, nI sc, ops, dst, sa, upd sb L z, inp, wt, dr, yr, yt, yu, yb)) : wY_emit_199 post z (nI L) (nI R) (nI Q) (nI M) (nI P) (nI L) (nI N) fl sw (nI q) (nI sc) ops dst sa sb inp wt dr yr yt yu yb := by
  unfold wY_emit_199
  rw [nI_clamp (by omega)]
  refine And.intro (vp_in_nI hL (by omega)) (nm_e (nm_r (nI_1 L) ?_))
  unfold wpY_discardRun
  dsimp only
  rw [nI_pred]
  exact K
theorem y_180 {post : Int32 → SY → Prop} {x4 x5 z : Int32} (hL : L < 8) (hz : (x5 = 0 ∧ z = 0) ∨ (x5 ≠ 0 ∧ z = x4)) (K : post (nI L) (nI R, nI Q, nI M, nI P, nI (L + 1), nI 0, -1, 0, nI q, nI sc, ops, dst, sa, upd sb L z, inp, wt, dr, yr, yt, yu, yb)) : wY_emit_180 post x4 x5 (nI R) (nI Q) (nI M) (nI P) (nI L) (nI N) fl sw (nI q) (nI sc) ops dst sa sb inp wt dr yr yt yu yb := by
  unfold wY_emit_180
  rcases hz with ⟨a, rfl⟩ | ⟨a, rfl⟩
  · exact br_t a (y_199 hL K)
  · exact br_f a (y_199 hL K)
theorem y_117 {post : Int32 → SY → Prop} {o : Nat} {x2 x3 x4 x5 z : Int32} (hP : pP P) (ho : o ≤ 8) (hL : L < 8) (hz : (x5 = 0 ∧ z = 0) ∨ (x5 ≠ 0 ∧ z = x4)) (K : post (nI L) (nI R, nI Q, nI M, nI P, nI (L + 1), nI 0, -1, 0, nI q, nI sc, upd ops L (nI o), upd dst L x2, upd sa L (kA P o x3), upd sb L z, inp, wt, dr, yr, yt, yu, yb)) : wY_emit_117 post (nI o) x2 x3 x4 x5 (nI R) (nI Q) (nI M) (nI P) (nI L) (nI N) fl sw (nI q) (nI sc) ops dst sa sb inp wt dr yr yt yu yb := by
  unfold wY_emit_117 wY_emit_165
  rw [nI_clamp (by omega)]
  have hi : vp_in (nI L) 8 := vp_in_nI hL (by omega)
  refine And.intro hi (nm_e (And.intro hi (nm_e (And.intro hi (nm_e (pk_eq o 0 (fun e => ?_) (fun e => pk_eq o 2 (fun e2 => ?_) (fun e2 => ?_))))))))
  · rw [kA, if_pos e] at K
    have H : wpY_mod (fun r_67 => (vp_in (nI L) 8 ∧ ∀ a_as_90 : Nat → Int32, a_as_90 = upd (upd sa L x3) L r_67 → ((nI o = 2 → (vp_in (nI L) 8 ∧ ∀ a_as_66 : Nat → Int32, a_as_66 = upd a_as_90 L 0 → wY_emit_180 post x4 x5 (nI R) (nI Q) (nI M) (nI P) (nI L) (nI N) fl sw (nI q) (nI sc) (upd ops L (nI o)) (upd dst L x2) a_as_66 sb inp wt dr yr yt yu yb)) ∧ (¬ nI o = 2 → wY_emit_180 post x4 x5 (nI R) (nI Q) (nI M) (nI P) (nI L) (nI N) fl sw (nI q) (nI sc) (upd ops L (nI o)) (upd dst L x2) a_as_90 sb inp wt dr yr yt yu yb)))) (nI R, nI Q, nI M, nI P, nI L, nI N, fl, sw, nI q, nI sc, upd ops L (nI o), upd dst L x2, upd sa L x3, sb, inp, wt, dr, yr, yt, yu, yb) (zI x3.toInt) := by
      refine y_mod hP x3.le_toInt x3.toInt_lt (And.intro hi (nm_r up2 (pk_eq o 2 (fun e2 => absurd e (by omega)) (fun e2 => y_180 hL hz K))))
    rw [zI_of] at H
    exact H
  · rw [kA, if_neg e, if_pos e2] at K
    exact And.intro hi (nm_r up2 (y_180 hL hz K))
  · rw [kA, if_neg e, if_neg e2] at K
    exact y_180 hL hz K
theorem y_98 {post : Int32 → SY → Prop} {o : Nat} {x2 x3 x4 z f : Int32} (hP : pP P) (ho : o ≤ 8) (hL : L < 8) (hb : ub o → gd R x4) (hz : (ub o ∧ z = x4) ∨ (¬ ub o ∧ z = 0)) (hf : (ub o ∧ f = 1) ∨ (¬ ub o ∧ f = 0)) (K : post (nI L) (nI R, nI Q, nI M, nI P, nI (L + 1), nI 0, -1, 0, nI q, nI sc, upd ops L (nI o), upd dst L x2, upd sa L (kA P o x3), upd sb L z, inp, wt, dr, yr, yt, yu, yb)) : wY_emit_98 post (nI o) x2 x3 x4 f (nI R) (nI Q) (nI M) (nI P) (nI L) (nI N) fl sw (nI q) (nI sc) ops dst sa sb inp wt dr yr yt yu yb := by
  unfold wY_emit_98
  rcases hf with ⟨u, rfl⟩ | ⟨u, rfl⟩
  · have e : z = x4 := by
      rcases hz with ⟨_, e⟩ | ⟨c, _⟩
      · exact e
      · exact absurd u c
    exact br_f (by decide) (y_rgy (hb u) (br_f (by decide) (y_117 hP ho hL (Or.inr ⟨by decide, e⟩) K)))
  · have e : z = 0 := by
      rcases hz with ⟨c, _⟩ | ⟨_, e⟩
      · exact absurd c u
      · exact e
    exact br_t rfl (y_117 hP ho hL (Or.inl ⟨rfl, e⟩) K)
theorem y_71 {post : Int32 → SY → Prop} {o : Nat} {x2 x3 x4 : Int32} (ho : o ≤ 8) (K : ∀ f, (ub o ∧ f = 1) ∨ (¬ ub o ∧ f = 0) → wY_emit_98 post (nI o) x2 x3 x4 f (nI R) (nI Q) (nI M) (nI P) (nI L) (nI N) fl sw (nI q) (nI sc) ops dst sa sb inp wt dr yr yt yu yb) : wY_emit_71 post (nI o) x2 x3 x4 (nI R) (nI Q) (nI M) (nI P) (nI L) (nI N) fl sw (nI q) (nI sc) ops dst sa sb inp wt dr yr yt yu yb := by
  unfold wY_emit_71 wY_emit_93
  exact pk_eq o 4 (fun e => K 1 (Or.inl ⟨Or.inl e, rfl⟩)) (fun e4 => pk_eq o 5 (fun e => K 1 (Or.inl ⟨Or.inr (Or.inl e), rfl⟩)) (fun e5 => pk_eq o 6 (fun e => K 1 (Or.inl ⟨Or.inr (Or.inr (Or.inl e)), rfl⟩)) (fun e6 => pk_eq o 8 (fun e => K 1 (Or.inl ⟨Or.inr (Or.inr (Or.inr e)), rfl⟩)) (fun e8 => K 0 (Or.inr ⟨by unfold ub; omega, rfl⟩)))))
theorem y_98r {post : Int32 → SY → Prop} {o : Nat} {x2 x3 x4 f : Int32} (hu : ub o) (hb : ¬ gd R x4) (hf : (ub o ∧ f = 1) ∨ (¬ ub o ∧ f = 0)) (K : post (-2) (nI R, nI Q, nI M, nI P, nI L, nI N, fl, sw, nI q, nI sc, ops, dst, sa, sb, inp, wt, dr, yr, yt, yu, yb)) : wY_emit_98 post (nI o) x2 x3 x4 f (nI R) (nI Q) (nI M) (nI P) (nI L) (nI N) fl sw (nI q) (nI sc) ops dst sa sb inp wt dr yr yt yu yb := by
  unfold wY_emit_98
  rcases hf with ⟨u, rfl⟩ | ⟨u, rfl⟩
  · exact br_f (by decide) (y_rgn hb (br_t rfl K))
  · exact absurd hu u
theorem y_55a {post : Int32 → SY → Prop} {o : Nat} {x2 x3 x4 : Int32} (ho : o ≤ 8) (ha : 3 ≤ o → gd R x3) (K : wY_emit_71 post (nI o) x2 x3 x4 (nI R) (nI Q) (nI M) (nI P) (nI L) (nI N) fl sw (nI q) (nI sc) ops dst sa sb inp wt dr yr yt yu yb) : wY_emit_55 post (nI o) x2 x3 x4 (nI R) (nI Q) (nI M) (nI P) (nI L) (nI N) fl sw (nI q) (nI sc) ops dst sa sb inp wt dr yr yt yu yb := by
  unfold wY_emit_55
  exact pk_lt o 3 (fun _ => K) (fun c => y_rgy (ha c) (br_f (by decide) K))
theorem y_55r {post : Int32 → SY → Prop} {o : Nat} {x2 x3 x4 : Int32} (ho : o ≤ 8) (h3 : 3 ≤ o) (ha : ¬ gd R x3) (K : post (-2) (nI R, nI Q, nI M, nI P, nI L, nI N, fl, sw, nI q, nI sc, ops, dst, sa, sb, inp, wt, dr, yr, yt, yu, yb)) : wY_emit_55 post (nI o) x2 x3 x4 (nI R) (nI Q) (nI M) (nI P) (nI L) (nI N) fl sw (nI q) (nI sc) ops dst sa sb inp wt dr yr yt yu yb := by
  unfold wY_emit_55
  exact pk_lt o 3 (fun c => absurd h3 (by omega)) (fun c => y_rgn ha (br_t rfl K))
theorem y_em {post : Int32 → SY → Prop} {o d : Nat} {x3 x4 : Int32} (hL : L < 8) (hR : R ≤ 6) (ho : o ≤ 8) (hd : d < R) (K1 : o = 1 → ¬ gd Q x3 → post (-2) (nI R, nI Q, nI M, nI P, nI L, nI N, fl, sw, nI q, nI sc, ops, dst, sa, sb, inp, wt, dr, yr, yt, yu, yb)) (K : (o = 1 → gd Q x3) → wY_emit_55 post (nI o) (nI d) x3 x4 (nI R) (nI Q) (nI M) (nI P) (nI L) (nI N) fl sw (nI q) (nI sc) ops dst sa sb inp wt dr yr yt yu yb) : wpY_emit post (nI R, nI Q, nI M, nI P, nI L, nI N, fl, sw, nI q, nI sc, ops, dst, sa, sb, inp, wt, dr, yr, yt, yu, yb) (nI o) (nI d) x3 x4 := by
  refine pk_eq L 8 (fun e => absurd e (by omega)) (fun _ => br_f (nI_pos (by omega)) (br_t (nI_le (b := 8) ho (by omega)) (y_reg hR hd (br_f (by decide) (pk_eq o 1 (fun e => ?_) (fun e => K (fun c => absurd c e)))))))
  by_cases c : gd Q x3
  · exact bg_y c (K (fun _ => c))
  · exact bg_n c (K1 e c)
theorem pg_e {o d a b : Nat} (h : pg P R Q L ops dst sa sb) (hv : pv P R Q o d a b) : pg P R Q (L + 1) (upd ops L (nI o)) (upd dst L (nI d)) (upd sa L (nI a)) (upd sb L (nI b)) := by
  intro j hj
  by_cases c : j = L
  · subst c
    exact ⟨o, d, a, b, pk_us, pk_us, pk_us, pk_us, hv⟩
  · rw [pk_un c, pk_un c, pk_un c, pk_un c]
    exact h j (by omega)
end
theorem i_vc_emit {k : Nat} {u : SX} {v : SY} (I : i_Rel k u v) (hk : k + 5 ≤ 2564) (v1 : Int32) (v2 : Int32) (v3 : Int32) (v4 : Int32) : wpX_emit (fun r u' => wpY_emit (fun r' v' => r' = r ∧ i_Rel (k + 5) u' v') v v1 v2 v3 v4) u v1 v2 v3 v4 := by
  refine re_e (Z := fun u v => wpX_emit (fun r u' => wpY_emit (fun r' v' => r' = r ∧ i_Rel (k + 5) u' v') v v1 v2 v3 v4) u v1 v2 v3 v4) I ?_
  intro R Q M P L N q sc sp tp fl sw ops dst sa sb inp wt dr cur rg tn rx ry ad ss st co pl yr yt yu yb Ii Wi Vi hfa
  obtain ⟨hc, hN, ⟨hW, hWr⟩, ⟨hV, hVr⟩, hnf, hcur, hp, hfl, hsw⟩ := id hfa
  have F := re_i (k := k + 5) (rg := rg) (tn := tn) (rx := rx) (ry := ry) (yr := yr) (yt := yt) (yu := yu) (yb := yb) hfa
  obtain ⟨hz, hg, hI, hIr⟩ := id hc
  have hL := hz.2.2.2.2
  have hR := hz.1
  have hQ := hz.2.1
  have hP := pP_b hz.2.2.2.1
  by_cases h8 : L = 8
  · subst h8
    exact br_f (by decide) (br_t (by decide) (And.intro rfl F))
  have hL8 : L < 8 := by omega
  have x8 : nI L < 8 := nI_lt (b := 8) hL8 (by omega)
  have y8 : ¬ nI L = 8 := fun c => h8 ((nI_eq (b := 8) (by omega) (by omega)).mp c)
  by_cases h1 : v1 < 0
  · exact br_t x8 (br_t h1 (br_f y8 (br_t h1 (And.intro rfl F))))
  by_cases h2 : v1 ≤ 8
  · by_cases h3 : gd R v2
    · obtain ⟨o, ho, rfl⟩ := nI_of2 (n := 8) (by decide) h1 h2
      obtain ⟨d, hd, rfl⟩ := gd_o h3 (by omega)
      refine x_em hL8 hR.2 ho hd (fun e c => y_em hL8 hR.2 ho hd (fun _ _ => And.intro rfl F) (fun z => absurd (z e) c)) (fun c1 => ?_)
      by_cases c2 : 3 ≤ o ∧ ¬ gd R v3
      · exact x_59r ho c2.1 c2.2 (y_em hL8 hR.2 ho hd (fun e z => absurd (c1 e) z) (fun _ => y_55r ho c2.1 c2.2 (And.intro rfl F)))
      have c2 : 3 ≤ o → gd R v3 := fun z => Classical.byContradiction (fun w => c2 ⟨z, w⟩)
      refine x_59 ho c2 ?_
      by_cases c3 : ub o ∧ ¬ gd R v4
      · exact x_79r ho c3.1 c3.2 (y_em hL8 hR.2 ho hd (fun e z => absurd (c1 e) z) (fun _ => y_55a ho c2 (y_71 ho (fun f hf => y_98r c3.1 c3.2 hf (And.intro rfl F)))))
      have c3 : ub o → gd R v4 := fun z => Classical.byContradiction (fun w => c3 ⟨z, w⟩)
      obtain ⟨b, hb, zb⟩ : ∃ b, b < R ∧ ((ub o ∧ nI b = v4) ∨ (¬ ub o ∧ nI b = 0)) := by
        by_cases u : ub o
        · obtain ⟨b, hb, e⟩ := gd_o (c3 u) (by omega)
          exact ⟨b, hb, Or.inl ⟨u, e.symm⟩⟩
        · exact ⟨0, by omega, Or.inr ⟨u, rfl⟩⟩
      obtain ⟨a, ea, ha1, ha2, ha3, ha4⟩ : ∃ a, kA P o v3 = nI a ∧ (o = 0 → a < P) ∧ (o = 1 → a < Q) ∧ (3 ≤ o → a < R) ∧ a < 1000 := by
        by_cases o0 : o = 0
        · have zz := zr_b v3.toInt (P := P) (by omega)
          exact ⟨(v3.toInt % P).toNat, by rw [kA, if_pos o0, zI_N zz.1], fun _ => by omega, fun _ => by omega, fun _ => by omega, by omega⟩
        by_cases o2 : o = 2
        · exact ⟨0, by rw [kA, if_neg o0, if_pos o2]; rfl, fun _ => by omega, fun _ => by omega, fun _ => by omega, by omega⟩
        by_cases o1 : o = 1
        · obtain ⟨a, ha, e⟩ := gd_o (c1 o1) (by omega)
          exact ⟨a, by rw [kA, if_neg o0, if_neg o2, e], fun _ => by omega, fun _ => ha, fun _ => by omega, by omega⟩
        · obtain ⟨a, ha, e⟩ := gd_o (c2 (by omega)) (by omega)
          exact ⟨a, by rw [kA, if_neg o0, if_neg o2, e], fun _ => by omega, fun _ => by omega, fun _ => ha, by omega⟩
      refine x_79 (z := nI b) hz.2.2.2.1 ho hL8 hR.2 c3 zb (fun c' g => ?_)
      refine y_em hL8 hR.2 ho hd (fun e z => absurd (c1 e) z) (fun _ => y_55a ho c2 (y_71 ho (fun f hf => y_98 (z := nI b) hz.2.2.2.1 ho hL8 c3 zb hf ?_)))
      rw [ea]
      have hg' := pg_e hg (o := o) (d := d) (a := a) (b := b) ⟨ho, hd, ha1, ha2, ha3, hb, ha4⟩
      exact And.intro rfl (re_i (fa_0 ⟨⟨hR, hQ, hz.2.2.1, hz.2.2.2.1, by omega⟩, hg', hI, hIr⟩ ⟨hW, hWr⟩ ⟨hV, hVr⟩ hp g))
    · exact br_t x8 (br_f h1 (br_t h2 (bg_n h3 (br_f y8 (br_f h1 (br_t h2 (y_rgn h3 (br_t rfl (And.intro rfl F)))))))))
  · exact br_t x8 (br_f h1 (br_f h2 (br_f y8 (br_f h1 (br_f h2 (And.intro rfl F))))))
end
section
/-! the owed calls: erase, set, get, and the constructors -/
def sf (f : Nat → Int32) (i j : Nat) : Nat → Int32 := fun k => if i ≤ k ∧ k < j then f (k + 1) else f k
theorem sf_0 (f : Nat → Int32) (i : Nat) : sf f i i = f := by
  funext k
  exact if_neg (by omega)
theorem sf_n {f : Nat → Int32} {i j : Nat} : sf f i j (j + 1) = f (j + 1) := if_neg (by omega)
theorem sf_s {f : Nat → Int32} {i j : Nat} (h : i ≤ j) : upd (sf f i j) j (f (j + 1)) = sf f i (j + 1) := by
  funext k
  by_cases c : k = j
  · subst c
    rw [pk_us]
    exact (if_pos (by omega)).symm
  · rw [pk_un c, sf, sf]
    by_cases d : i ≤ k ∧ k < j
    · rw [if_pos d, if_pos (by omega)]
    · rw [if_neg d, if_neg (by omega)]
theorem pg_r {P R Q L i : Nat} {ops dst sa sb : Nat → Int32} (h : pg P R Q (L + 1) ops dst sa sb) : pg P R Q L (sf ops i L) (sf dst i L) (sf sa i L) (sf sb i L) := by
  intro j hj
  by_cases c : i ≤ j
  · have e : ∀ f : Nat → Int32, sf f i L j = f (j + 1) := fun f => if_pos ⟨c, hj⟩
    rw [e, e, e, e]
    exact h (j + 1) (by omega)
  · have e : ∀ f : Nat → Int32, sf f i L j = f j := fun f => if_neg (by omega)
    rw [e, e, e, e]
    exact h j (by omega)
section
variable {R Q M P L N q sc sp tp : Nat} {fl sw : Int32} {ops dst sa sb inp wt dr cur rg tn rx ry ad ss st co pl yr yt yu yb : Nat → Int32} {Ii Wi Vi : Nat → Int}
theorem x_e17 {post : Int32 → SX → Prop} {i : Nat} (hL : L < 8) (hR : R ≤ 6) (K : ∀ c', cp R c' inp → post (nI L) (nI R, nI Q, nI M, nI P, nI L, nI 0, -1, 0, nI q, nI sc, nI sp, nI tp, sf ops i L, sf dst i L, sf sa i L, sf sb i L, inp, wt, dr, c', rg, tn, rx, ry, ad, ss, st, co, pl)) : ∀ d j, j + d = L → i ≤ j → ∀ n, d < n → wX_erase_17 post (nI R) (nI Q) (nI M) (nI P) (nI (L + 1)) (nI N) fl sw (nI q) (nI sc) (nI sp) (nI tp) n (nI j) (sf ops i j) (sf dst i j) (sf sa i j) (sf sb i j) inp wt dr cur rg tn rx ry ad ss st co pl := by
  intro d
  induction d with
  | zero =>
    intro j e hi n hn
    obtain ⟨n, rfl, _⟩ := fu hn
    obtain rfl : j = L := by omega
    refine br_t ?_ (nm_r (nI_pred j) (x_dis hR K))
    rw [nI_pred]
    exact nI_le (Nat.le_refl _) (by omega)
  | succ d ih =>
    intro j e hi n hn
    obtain ⟨n, rfl, _⟩ := fu hn
    have h1 : vp_in (nI (j + 1)) 8 := vp_in_nI (by omega) (by omega)
    have h0 : vp_in (nI j) 8 := vp_in_nI (by omega) (by omega)
    refine br_f ?_ ?_
    · rw [nI_pred]
      exact nI_ge (by omega) (by omega)
    rw [nI_1 j, nI_clamp (n := j + 1) (by omega), nI_clamp (n := j) (by omega), sf_n, sf_n, sf_n, sf_n, sf_s hi, sf_s hi, sf_s hi, sf_s hi]
    exact And.intro h1 (And.intro h0 (nm_e (And.intro h1 (And.intro h0 (nm_e (And.intro h1 (And.intro h0 (nm_e (And.intro h1 (And.intro h0 (nm_e (nm_e (ih (j + 1) (by omega) (by omega) n (by omega))))))))))))))
theorem y_e17 {post : Int32 → SY → Prop} {i : Nat} (hL : L < 8) (K : post (nI L) (nI R, nI Q, nI M, nI P, nI L, nI 0, -1, 0, nI q, nI sc, sf ops i L, sf dst i L, sf sa i L, sf sb i L, inp, wt, dr, yr, yt, yu, yb)) : ∀ d j, j + d = L → i ≤ j → ∀ n, d < n → wY_erase_17 post (nI R) (nI Q) (nI M) (nI P) (nI (L + 1)) (nI N) fl sw (nI q) (nI sc) n (nI j) (sf ops i j) (sf dst i j) (sf sa i j) (sf sb i j) inp wt dr yr yt yu yb := by
  intro d
  induction d with
  | zero =>
    intro j e hi n hn
    obtain ⟨n, rfl, _⟩ := fu hn
    obtain rfl : j = L := by omega
    refine br_t ?_ (nm_r (nI_pred j) K)
    rw [nI_pred]
    exact nI_le (Nat.le_refl _) (by omega)
  | succ d ih =>
    intro j e hi n hn
    obtain ⟨n, rfl, _⟩ := fu hn
    have h1 : vp_in (nI (j + 1)) 8 := vp_in_nI (by omega) (by omega)
    have h0 : vp_in (nI j) 8 := vp_in_nI (by omega) (by omega)
    refine br_f ?_ ?_
    · rw [nI_pred]
      exact nI_ge (by omega) (by omega)
    rw [nI_1 j, nI_clamp (n := j + 1) (by omega), nI_clamp (n := j) (by omega), sf_n, sf_n, sf_n, sf_n, sf_s hi, sf_s hi, sf_s hi, sf_s hi]
    exact And.intro h1 (And.intro h0 (nm_e (And.intro h1 (And.intro h0 (nm_e (And.intro h1 (And.intro h0 (nm_e (And.intro h1 (And.intro h0 (nm_e (nm_e (ih (j + 1) (by omega) (by omega) n (by omega))))))))))))))
theorem x_ct {post : Int32 → Prop} {o n : Nat} {p1 : Int32} (ho : o ≤ 2) (hn : n = if o = 1 then R else R + Q) (h0 : gd n p1 → post 0) (h2 : ¬ gd n p1 → post (-2)) : wpX_checkTarget post (nI R, nI Q, nI M, nI P, nI L, nI N, fl, sw, nI q, nI sc, nI sp, nI tp, ops, dst, sa, sb, inp, wt, dr, cur, rg, tn, rx, ry, ad, ss, st, co, pl) (nI o) p1 := by
  have F : wX_checkTarget_32 post p1 (nI n) (nI R) (nI Q) (nI M) (nI P) (nI L) (nI N) fl sw (nI q) (nI sc) (nI sp) (nI tp) ops dst sa sb inp wt dr cur rg tn rx ry ad ss st co pl := by
    unfold wX_checkTarget_32
    by_cases c : gd n p1
    · exact bg_y c (h0 c)
    · exact bg_n c (h2 c)
  refine br_f (nI_pos (by omega)) (br_t (nI_le (b := 2) ho (by omega)) (pk_eq o 1 (fun e => ?_) (fun e => ?_)))
  · rw [if_pos e] at hn
    rw [← hn]; exact F
  · rw [if_neg e] at hn
    rw [nI_add, ← hn]; exact F
end
theorem i_vc_erase {k : Nat} {u : SX} {v : SY} (I : i_Rel k u v) (hk : k + 5 ≤ 2564) (v1 : Int32) : wpX_erase (fun r u' => wpY_erase (fun r' v' => r' = r ∧ i_Rel (k + 5) u' v') v v1) u v1 := by
  refine re_e (Z := fun u v => wpX_erase (fun r u' => wpY_erase (fun r' v' => r' = r ∧ i_Rel (k + 5) u' v') v v1) u v1) I ?_
  intro R Q M P L N q sc sp tp fl sw ops dst sa sb inp wt dr cur rg tn rx ry ad ss st co pl yr yt yu yb Ii Wi Vi hfa
  obtain ⟨hc, hN, ⟨hW, hWr⟩, ⟨hV, hVr⟩, hnf, hcur, hp, hfl, hsw⟩ := id hfa
  have F := re_i (k := k + 5) (rg := rg) (tn := tn) (rx := rx) (ry := ry) (yr := yr) (yt := yt) (yu := yu) (yb := yb) hfa
  obtain ⟨hz, hg, hI, hIr⟩ := id hc
  have hL := hz.2.2.2.2
  by_cases h1 : v1 < 0
  · exact br_t h1 (br_t h1 (And.intro rfl F))
  by_cases h2 : v1 < nI L
  · obtain ⟨i, hi, rfl⟩ := nI_of h1
    have h3 : i < L := (nI_ltI hi (by omega)).mp h2
    obtain ⟨L, rfl⟩ : ∃ l, L = l + 1 := ⟨L - 1, by omega⟩
    have GX := x_e17 (post := fun r u' => wpY_erase (fun r' v' => r' = r ∧ i_Rel (k + 5) u' v') (nI R, nI Q, nI M, nI P, nI (L + 1), nI N, fl, sw, nI q, nI sc, ops, dst, sa, sb, inp, wt, dr, yr, yt, yu, yb) (nI i)) (M := M) (Q := Q) (P := P) (N := N) (q := q) (sc := sc) (sp := sp) (tp := tp) (fl := fl) (sw := sw) (inp := inp) (wt := wt) (dr := dr) (cur := cur) (rg := rg) (tn := tn) (rx := rx) (ry := ry) (ad := ad) (ss := ss) (st := st) (co := co) (pl := pl) (ops := ops) (dst := dst) (sa := sa) (sb := sb) (L := L) (i := i) (by omega) hz.1.2 (fun c' g => ?_) (L - i) i (by omega) (Nat.le_refl i) (L + 1) (by omega)
    · rw [sf_0, sf_0, sf_0, sf_0] at GX
      exact br_f h1 (br_t h2 (Exists.intro (L + 1) GX))
    · have GY := y_e17 (post := fun r' v' => r' = nI L ∧ i_Rel (k + 5) (nI R, nI Q, nI M, nI P, nI L, nI 0, -1, 0, nI q, nI sc, nI sp, nI tp, sf ops i L, sf dst i L, sf sa i L, sf sb i L, inp, wt, dr, c', rg, tn, rx, ry, ad, ss, st, co, pl) v') (R := R) (M := M) (Q := Q) (P := P) (N := N) (q := q) (sc := sc) (fl := fl) (sw := sw) (inp := inp) (wt := wt) (dr := dr) (yr := yr) (yt := yt) (yu := yu) (yb := yb) (ops := ops) (dst := dst) (sa := sa) (sb := sb) (L := L) (i := i) (by omega) ?_ (L - i) i (by omega) (Nat.le_refl i) (L + 1) (by omega)
      · rw [sf_0, sf_0, sf_0, sf_0] at GY
        exact br_f h1 (br_t h2 (Exists.intro (L + 1) GY))
      · exact And.intro rfl (re_i (fa_0 ⟨⟨hz.1, hz.2.1, hz.2.2.1, hz.2.2.2.1, by omega⟩, pg_r hg, hI, hIr⟩ ⟨hW, hWr⟩ ⟨hV, hVr⟩ hp g))
  · exact br_f h1 (br_f h2 (br_f h1 (br_f h2 (And.intro rfl F))))
theorem i_vc_get {k : Nat} {u : SX} {v : SY} (I : i_Rel k u v) (hk : k + 5 ≤ 2564) (v1 : Int32) (v2 : Int32) : wpX_get (fun r => wpY_get (fun r' => r' = r ∧ i_Rel (k + 5) u v) v v1 v2) u v1 v2 := by
  refine re_e (Z := fun u v => wpX_get (fun r => wpY_get (fun r' => r' = r ∧ i_Rel (k + 5) u v) v v1 v2) u v1 v2) I ?_
  intro R Q M P L N q sc sp tp fl sw ops dst sa sb inp wt dr cur rg tn rx ry ad ss st co pl yr yt yu yb Ii Wi Vi hfa
  obtain ⟨hc, hN, ⟨hW, hWr⟩, ⟨hV, hVr⟩, hnf, hcur, hp, hfl, hsw⟩ := id hfa
  have F := re_i (k := k + 5) (rg := rg) (tn := tn) (rx := rx) (ry := ry) (yr := yr) (yt := yt) (yu := yu) (yb := yb) hfa
  have hR := hc.1.1.2
  have hQ := hc.1.2.1.2
  unfold wpX_get
  dsimp only
  by_cases h1 : v1 < 0
  · exact br_t h1 (br_f (by decide) (br_t h1 (And.intro rfl F)))
  by_cases h2 : v1 ≤ 2
  · obtain ⟨o, ho, rfl⟩ := nI_of2 (n := 2) (by decide) h1 h2
    have YC : ∀ {post : Int32 → Prop} (n : Nat), n = (if o = 1 then R else R + Q) → wY_get_32 post (nI o) v2 (nI n) (nI R) (nI Q) (nI M) (nI P) (nI L) (nI N) fl sw (nI q) (nI sc) ops dst sa sb inp wt dr yr yt yu yb → wpY_get post (nI R, nI Q, nI M, nI P, nI L, nI N, fl, sw, nI q, nI sc, ops, dst, sa, sb, inp, wt, dr, yr, yt, yu, yb) (nI o) v2 := by
      intro post n hn K
      refine br_f h1 (br_t h2 (pk_eq o 1 (fun e => ?_) (fun e => ?_)))
      · rw [if_pos e] at hn; subst hn; exact K
      · rw [if_neg e] at hn; rw [nI_add, ← hn]; exact K
    refine x_ct (n := if o = 1 then R else R + Q) ho rfl (fun c => br_t (by decide) ?_) (fun c => br_f (by decide) (YC _ rfl (bg_n c (And.intro rfl F))))
    have cb : (if o = 1 then R else R + Q) < 1000 := by
      by_cases e : o = 1
      · rw [if_pos e]; omega
      · rw [if_neg e]; omega
    have o3 : o = 0 ∨ o = 1 ∨ o = 2 := by omega
    rcases o3 with rfl | rfl | rfl
    · obtain ⟨i, hi, e⟩ := gd_o c cb
      have hi : i < R + Q := hi
      have i10 : vp_in v2 10 := by rw [e]; exact vp_in_nI (by omega) (by omega)
      exact br_t (by decide) (And.intro i10 (YC _ rfl (bg_y c (br_t (by decide) (And.intro i10 (And.intro rfl F))))))
    · obtain ⟨i, hi, e⟩ := gd_o c cb
      have hi : i < R := hi
      have i6 : vp_in v2 6 := by rw [e]; exact vp_in_nI (by omega) (by omega)
      exact br_f (by decide) (br_t (by decide) (And.intro i6 (YC _ rfl (bg_y c (br_f (by decide) (br_t (by decide) (And.intro i6 (And.intro rfl F))))))))
    · obtain ⟨i, hi, e⟩ := gd_o c cb
      have hi : i < R + Q := hi
      have i10 : vp_in v2 10 := by rw [e]; exact vp_in_nI (by omega) (by omega)
      exact br_f (by decide) (br_f (by decide) (And.intro i10 (YC _ rfl (bg_y c (br_f (by decide) (br_f (by decide) (And.intro i10 (And.intro rfl F))))))))
  · exact br_f h1 (br_f h2 (br_f (by decide) (br_f h1 (br_f h2 (And.intro rfl F)))))
theorem i_vc_set {k : Nat} {u : SX} {v : SY} (I : i_Rel k u v) (hk : k + 5 ≤ 2564) (v1 : Int32) (v2 : Int32) (v3 : Int32) : wpX_set (fun r u' => wpY_set (fun r' v' => r' = r ∧ i_Rel (k + 5) u' v') v v1 v2 v3) u v1 v2 v3 := by
  refine re_e (Z := fun u v => wpX_set (fun r u' => wpY_set (fun r' v' => r' = r ∧ i_Rel (k + 5) u' v') v v1 v2 v3) u v1 v2 v3) I ?_
  intro R Q M P L N q sc sp tp fl sw ops dst sa sb inp wt dr cur rg tn rx ry ad ss st co pl yr yt yu yb Ii Wi Vi hfa
  obtain ⟨hc, hN, ⟨hW, hWr⟩, ⟨hV, hVr⟩, hnf, hcur, hp, hfl, hsw⟩ := id hfa
  have F := re_i (k := k + 5) (rg := rg) (tn := tn) (rx := rx) (ry := ry) (yr := yr) (yt := yt) (yu := yu) (yb := yb) hfa
  obtain ⟨hz, hg, hI, hIr⟩ := id hc
  have hR := hz.1.2
  have hQ := hz.2.1.2
  have hP := pP_b hz.2.2.2.1
  unfold wpX_set
  dsimp only
  by_cases h1 : v1 < 0
  · exact br_t h1 (br_f (by decide) (br_t h1 (And.intro rfl F)))
  by_cases h2 : v1 ≤ 2
  · obtain ⟨o, ho, rfl⟩ := nI_of2 (n := 2) (by decide) h1 h2
    obtain ⟨w, ew, hw1, hw2⟩ : ∃ w : Int, v3 = zI w ∧ -2147483648 ≤ w ∧ w < 2147483648 := ⟨v3.toInt, (zI_of v3).symm, v3.le_toInt, v3.toInt_lt⟩
    subst ew
    have zz := zr_b w (P := P) (by omega)
    have YC : ∀ {post : Int32 → SY → Prop} (n : Nat), n = (if o = 1 then R else R + Q) → wY_set_32 post (nI o) v2 (zI w) (nI n) (nI R) (nI Q) (nI M) (nI P) (nI L) (nI N) fl sw (nI q) (nI sc) ops dst sa sb inp wt dr yr yt yu yb → wpY_set post (nI R, nI Q, nI M, nI P, nI L, nI N, fl, sw, nI q, nI sc, ops, dst, sa, sb, inp, wt, dr, yr, yt, yu, yb) (nI o) v2 (zI w) := by
      intro post n hn K
      refine br_f h1 (br_t h2 (pk_eq o 1 (fun e => ?_) (fun e => ?_)))
      · rw [if_pos e] at hn; subst hn; exact K
      · rw [if_neg e] at hn; rw [nI_add, ← hn]; exact K
    refine x_ct (n := if o = 1 then R else R + Q) ho rfl (fun c => br_t (by decide) ?_) (fun c => br_f (by decide) (YC _ rfl (bg_n c (And.intro rfl F))))
    refine x_res hz.2.2.2.1 hw1 hw2 ?_
    have cb : (if o = 1 then R else R + Q) < 1000 := by
      by_cases e : o = 1
      · rw [if_pos e]; omega
      · rw [if_neg e]; omega
    have o3 : o = 0 ∨ o = 1 ∨ o = 2 := by omega
    obtain ⟨i, hi, e⟩ := gd_o c cb
    rcases o3 with rfl | rfl | rfl
    · have hi : i < R + Q := hi
      subst e
      have i10 : vp_in (nI i) 10 := vp_in_nI (by omega) (by omega)
      refine br_t (by decide) (And.intro i10 (nm_r (e' := upd inp i (zI (w % P))) (by rw [nI_clamp (by omega)]) (x_dis hR (fun c' g => ?_))))
      refine YC _ rfl (bg_y c (y_mod hz.2.2.2.1 hw1 hw2 (br_t (by decide) (And.intro i10 (nm_r (e' := upd inp i (zI (w % P))) (by rw [nI_clamp (by omega)]) ?_)))))
      exact And.intro rfl (re_i (fa_0 ⟨hz, hg, ag_u hI rfl, rn_u hIr zz⟩ ⟨hW, hWr⟩ ⟨hV, hVr⟩ hp g))
    · have hi : i < R := hi
      subst e
      have i6 : vp_in (nI i) 6 := vp_in_nI (by omega) (by omega)
      refine br_f (by decide) (br_t (by decide) (And.intro i6 (nm_r (e' := upd wt i (zI (w % P))) (by rw [nI_clamp (by omega)]) ?_)))
      refine YC _ rfl (bg_y c (y_mod hz.2.2.2.1 hw1 hw2 (br_f (by decide) (br_t (by decide) (And.intro i6 (nm_r (e' := upd wt i (zI (w % P))) (by rw [nI_clamp (by omega)]) ?_))))))
      exact And.intro rfl (re_i ⟨hc, hN, ⟨ag_u hW rfl, rn_u hWr zz⟩, ⟨hV, hVr⟩, hnf, hcur, hp, hfl, Or.inl rfl⟩)
    · have hi : i < R + Q := hi
      subst e
      have i10 : vp_in (nI i) 10 := vp_in_nI (by omega) (by omega)
      refine br_f (by decide) (br_f (by decide) (And.intro i10 (nm_r (e' := upd dr i (zI (w % P))) (by rw [nI_clamp (by omega)]) ?_)))
      refine YC _ rfl (bg_y c (y_mod hz.2.2.2.1 hw1 hw2 (br_f (by decide) (br_f (by decide) (And.intro i10 (nm_r (e' := upd dr i (zI (w % P))) (by rw [nI_clamp (by omega)]) ?_))))))
      exact And.intro rfl (re_i ⟨hc, hN, ⟨hW, hWr⟩, ⟨ag_u hV rfl, rn_u hVr zz⟩, hnf, hcur, hp, hfl, hsw⟩)
  · exact br_f h1 (br_f h2 (br_f (by decide) (br_f h1 (br_f h2 (And.intro rfl F)))))
end
section
/-! the constructors -/
def cl (v : Int32) (lo hi r : Nat) : Prop := lo ≤ r ∧ r ≤ hi ∧ ((v = nI r) ∨ (r = lo ∧ ¬ nI lo ≤ v) ∨ (r = hi ∧ ¬ v ≤ nI hi)) ∧ (∀ A : Int32 → Prop, A (nI r) → ((nI lo ≤ v → ((v ≤ nI hi → A v) ∧ (¬ v ≤ nI hi → A (nI hi)))) ∧ (¬ nI lo ≤ v → A (nI lo))))
theorem cl_c (v : Int32) {lo hi : Nat} (h : lo ≤ hi) (hb : hi < 1000) : ∃ r, cl v lo hi r := by
  by_cases c1 : nI lo ≤ v
  · by_cases c2 : v ≤ nI hi
    · have n0 : ¬ v < 0 := fun z => absurd (Int32.lt_of_le_of_lt c1 z) (nI_pos (by omega))
      obtain ⟨r, hr, rfl⟩ := nI_of n0
      exact ⟨r, (nI_leI (by omega) hr).mp c1, (nI_leI hr (by omega)).mp c2, Or.inl rfl, fun A hA => br_t c1 (br_t c2 hA)⟩
    · exact ⟨hi, h, Nat.le_refl hi, Or.inr (Or.inr ⟨rfl, c2⟩), fun A hA => br_t c1 (br_f c2 hA)⟩
  · exact ⟨lo, Nat.le_refl lo, h, Or.inr (Or.inl ⟨rfl, c1⟩), fun A hA => br_f c1 hA⟩
section
variable {R Q M P L N q sc sp tp : Nat} {fl sw : Int32} {ops dst sa sb inp wt dr cur rg tn rx ry ad ss st co pl yr yt yu yb : Nat → Int32} {Ii Wi Vi : Nat → Int}
variable {f0 f1 f2 f3 f4 f5 f6 f7 f8 f9 f10 f11 : Int32} {a0 a1 a2 a3 a4 a5 a6 a7 a8 a9 a10 a11 a12 a13 a14 a15 a16 : Nat → Int32}
theorem x_cl {post : Int32 → Prop} {v : Int32} {lo hi r : Nat} (h : cl v lo hi r) (K : post (nI r)) : wpX_clamp post (f0, f1, f2, f3, f4, f5, f6, f7, f8, f9, f10, f11, a0, a1, a2, a3, a4, a5, a6, a7, a8, a9, a10, a11, a12, a13, a14, a15, a16) v (nI lo) (nI hi) := h.2.2.2 post K
theorem x_226 {post : SX → Prop} (K : ∀ co' pl', pt co' pl' → post (nI R, nI Q, nI M, nI P, 0, 0, -1, 0, 0, 0, 0, 0, fun _ => 0, fun _ => 0, fun _ => 0, fun _ => 0, fun _ => 0, fun _ => 0, fun _ => 0, fun _ => 0, fun _ => 0, fun _ => 0, fun _ => 0, fun _ => 0, fun _ => 0, fun _ => 0, fun _ => 0, co', pl')) : wX_init_226 post (nI P) (nI R) (nI Q) (nI M) 0 0 0 0 0 0 0 0 0 (fun _ => 0) (fun _ => 0) (fun _ => 0) (fun _ => 0) (fun _ => 0) (fun _ => 0) (fun _ => 0) (fun _ => 0) (fun _ => 0) (fun _ => 0) (fun _ => 0) (fun _ => 0) (fun _ => 0) (fun _ => 0) (fun _ => 0) (fun _ => 0) (fun _ => 0) := by
  unfold wX_init_226
  exact x_fill (L := 0) (N := 0) (q := 0) (sc := 0) (sp := 0) (tp := 0) (sw := 0) (fl := -1) (ops := fun _ => 0) (dst := fun _ => 0) (sa := fun _ => 0) (sb := fun _ => 0) (inp := fun _ => 0) (wt := fun _ => 0) (dr := fun _ => 0) (cur := fun _ => 0) (rg := fun _ => 0) (tn := fun _ => 0) (rx := fun _ => 0) (ry := fun _ => 0) (ad := fun _ => 0) (ss := fun _ => 0) (st := fun _ => 0) (pl := fun _ => 0) K
/-- the prime that is chosen -/
def pc (v : Int32) (P : Nat) : Prop := (¬ 0 < v ∧ P = 5) ∨ (0 < v ∧ v = 1 ∧ P = 17) ∨ (0 < v ∧ ¬ v = 1 ∧ v = 2 ∧ P = 101) ∨ (0 < v ∧ ¬ v = 1 ∧ ¬ v = 2 ∧ P = 251)
theorem pc_P {v : Int32} (h : pc v P) : pP P := by
  rcases h with ⟨_, h⟩ | ⟨_, _, h⟩ | ⟨_, _, _, h⟩ | ⟨_, _, _, h⟩
  · exact Or.inl h
  · exact Or.inr (Or.inl h)
  · exact Or.inr (Or.inr (Or.inl h))
  · exact Or.inr (Or.inr (Or.inr h))
theorem pc_x {v : Int32} {r : Nat} (h : cl v 0 3 r) : ∃ P, pc v P ∧ ∀ B : Int32 → Prop, B (nI P) → ((nI r = 0 → B 5) ∧ (¬ nI r = 0 → ((nI r = 1 → B 17) ∧ (¬ nI r = 1 → ((nI r = 2 → B 101) ∧ (¬ nI r = 2 → B 251)))))) := by
  obtain ⟨h1, h2, h3, _⟩ := h
  have hr : r = 0 ∨ r = 1 ∨ r = 2 ∨ r = 3 := by omega
  rcases hr with rfl | rfl | rfl | rfl
  · refine ⟨5, Or.inl ⟨?_, rfl⟩, fun B hB => br_t (by decide) hB⟩
    rcases h3 with rfl | ⟨_, c⟩ | ⟨c, _⟩
    · decide
    · exact fun z => c (Int32.le_of_lt z)
    · omega
  · refine ⟨17, Or.inr (Or.inl ?_), fun B hB => br_f (by decide) (br_t (by decide) hB)⟩
    rcases h3 with rfl | ⟨c, _⟩ | ⟨c, _⟩
    · exact ⟨by decide, by decide, rfl⟩
    · omega
    · omega
  · refine ⟨101, Or.inr (Or.inr (Or.inl ?_)), fun B hB => br_f (by decide) (br_f (by decide) (br_t (by decide) hB))⟩
    rcases h3 with rfl | ⟨c, _⟩ | ⟨c, _⟩
    · exact ⟨by decide, by decide, by decide, rfl⟩
    · omega
    · omega
  · refine ⟨251, Or.inr (Or.inr (Or.inr ?_)), fun B hB => br_f (by decide) (br_f (by decide) (br_f (by decide) hB))⟩
    rcases h3 with rfl | ⟨c, _⟩ | ⟨_, c⟩
    · exact ⟨by decide, by decide, by decide, rfl⟩
    · omega
    · have c3 : nI 3 < v := Int32.not_le.mp c
      refine ⟨Int32.lt_trans (by decide) c3, fun z => ?_, fun z => ?_, rfl⟩
      · subst z; exact absurd c3 (by decide)
      · subst z; exact absurd c3 (by decide)
theorem y_162 {post : SY → Prop} {v : Int32} {g0 : Int32} (h : pc v P) (K : post (nI R, nI Q, nI M, nI P, 0, 0, -1, 0, 0, 0, fun _ => 0, fun _ => 0, fun _ => 0, fun _ => 0, fun _ => 0, fun _ => 0, fun _ => 0, fun _ => 0, fun _ => 0, fun _ => 0, fun _ => 0)) : wY_init_162 post v (nI M) (nI R) (nI Q) g0 0 0 0 0 0 0 0 (fun _ => 0) (fun _ => 0) (fun _ => 0) (fun _ => 0) (fun _ => 0) (fun _ => 0) (fun _ => 0) (fun _ => 0) (fun _ => 0) (fun _ => 0) (fun _ => 0) := by
  unfold wY_init_162
  rcases h with ⟨c, rfl⟩ | ⟨c, c1, rfl⟩ | ⟨c, c1, c2, rfl⟩ | ⟨c, c1, c2, rfl⟩
  · exact br_f c K
  · exact br_t c (br_t c1 K)
  · exact br_t c (br_f c1 (br_t c2 K))
  · exact br_t c (br_f c1 (br_f c2 K))
theorem y_init {post : SY → Prop} {k0 k1 k2 k3 : Int32} (h0 : cl k0 1 6 R) (h1 : cl k1 1 4 Q) (h2 : cl k2 1 6 M) (h3 : pc k3 P) (K : post (nI R, nI Q, nI M, nI P, 0, 0, -1, 0, 0, 0, fun _ => 0, fun _ => 0, fun _ => 0, fun _ => 0, fun _ => 0, fun _ => 0, fun _ => 0, fun _ => 0, fun _ => 0, fun _ => 0, fun _ => 0)) : wpY_init post k0 k1 k2 k3 := by
  refine h0.2.2.2 (fun z => wY_init_114 post k1 k2 k3 z 0 0 0 0 0 0 0 0 0 0 (fun _ => 0) (fun _ => 0) (fun _ => 0) (fun _ => 0) (fun _ => 0) (fun _ => 0) (fun _ => 0) (fun _ => 0) (fun _ => 0) (fun _ => 0) (fun _ => 0)) ?_
  refine h1.2.2.2 (fun z => wY_init_137 post k2 k3 z (nI R) 0 0 0 0 0 0 0 0 0 (fun _ => 0) (fun _ => 0) (fun _ => 0) (fun _ => 0) (fun _ => 0) (fun _ => 0) (fun _ => 0) (fun _ => 0) (fun _ => 0) (fun _ => 0) (fun _ => 0)) ?_
  refine h2.2.2.2 (fun z => wY_init_162 post k3 z (nI R) (nI Q) 0 0 0 0 0 0 0 0 (fun _ => 0) (fun _ => 0) (fun _ => 0) (fun _ => 0) (fun _ => 0) (fun _ => 0) (fun _ => 0) (fun _ => 0) (fun _ => 0) (fun _ => 0) (fun _ => 0)) ?_
  exact y_162 h3 K
end
theorem i_vc0 (k0 : Int32) (k1 : Int32) (k2 : Int32) (k3 : Int32) : wpX_init (fun u => wpY_init (fun v => i_Rel 4 u v) k0 k1 k2 k3) k0 k1 k2 k3 := by
  obtain ⟨R, h0⟩ := cl_c k0 (lo := 1) (hi := 6) (by omega) (by omega)
  obtain ⟨Q, h1⟩ := cl_c k1 (lo := 1) (hi := 4) (by omega) (by omega)
  obtain ⟨M, h2⟩ := cl_c k2 (lo := 1) (hi := 6) (by omega) (by omega)
  obtain ⟨r, h3⟩ := cl_c k3 (lo := 0) (hi := 3) (by omega) (by omega)
  obtain ⟨P, hP, hB⟩ := pc_x h3
  have pb := pP_b (pc_P hP)
  refine x_cl h0 (x_cl h1 (x_cl h2 (x_cl h3 (hB (fun z => wX_init_226 _ z (nI R) (nI Q) (nI M) 0 0 0 0 0 0 0 0 0 (fun _ => 0) (fun _ => 0) (fun _ => 0) (fun _ => 0) (fun _ => 0) (fun _ => 0) (fun _ => 0) (fun _ => 0) (fun _ => 0) (fun _ => 0) (fun _ => 0) (fun _ => 0) (fun _ => 0) (fun _ => 0) (fun _ => 0) (fun _ => 0) (fun _ => 0)) (x_226 (fun co' pl' hp => y_init h0 h1 h2 hP ?_))))))
  have az : ∀ n, ag n (fun _ => 0) (fun _ => 0) := fun n k _ => zI_0.symm
  exact re_i (L := 0) (N := 0) (q := 0) (sc := 0) (sp := 0) (tp := 0) (Ii := fun _ => 0) (Wi := fun _ => 0) (Vi := fun _ => 0) (fa_0 ⟨⟨⟨h0.1, h0.2.1⟩, ⟨h1.1, h1.2.1⟩, ⟨h2.1, h2.2.1⟩, pc_P hP, by omega⟩, fun j hj => absurd hj (Nat.not_lt_zero j), az 10, rn_0 (by omega)⟩ ⟨az 6, rn_0 (by omega)⟩ ⟨az 10, rn_0 (by omega)⟩ hp (fun _ _ => rfl))
end
