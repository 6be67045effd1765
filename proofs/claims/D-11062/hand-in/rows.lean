section
/-! the picture: one natural number, digits of base 8 -/
/-- digit p of the picture q -/
def lk_g (q p : Nat) : Nat := q / 8 ^ p % 8
/-- the picture q with v at digit p -/
def lk_w (q p v : Nat) : Nat := 8 ^ (p + 1) * (q / 8 ^ (p + 1)) + (8 ^ p * (v % 8) + q % 8 ^ p)
theorem lk_g_lt (q p : Nat) : lk_g q p < 8 := Nat.mod_lt _ (by omega)
theorem lk_pw (p : Nat) : 0 < 8 ^ p := Nat.pow_pos (by omega)
theorem lk_gw_s {q p v : Nat} (hv : v < 8) : lk_g (lk_w q p v) p = v := by
  have hd := lk_pw p
  have e : lk_w q p v = 8 ^ p * (8 * (q / 8 ^ (p + 1)) + v) + q % 8 ^ p := by
    unfold lk_w
    rw [Nat.mod_eq_of_lt hv, Nat.mul_add, Nat.add_assoc, ← Nat.mul_assoc (8 ^ p) 8, ← Nat.pow_succ]
  unfold lk_g
  rw [e, Nat.mul_add_div hd, Nat.div_eq_of_lt (Nat.mod_lt _ hd)]
  omega
theorem lk_gw_n {q p v r : Nat} (h : r ≠ p) : lk_g (lk_w q p v) r = lk_g q r := by
  have hd := lk_pw p
  have hv : v % 8 < 8 := Nat.mod_lt _ (by omega)
  have hm : q % 8 ^ p < 8 ^ p := Nat.mod_lt q hd
  rcases Nat.lt_or_gt_of_ne h with h | h
  · have hdv : 8 ^ r * 8 ∣ 8 ^ p := by
      rw [← Nat.pow_succ]
      exact Nat.pow_dvd_pow 8 h
    have hdv1 : 8 ^ r * 8 ∣ 8 ^ (p + 1) := Nat.dvd_trans hdv (by rw [Nat.pow_succ]; exact Nat.dvd_mul_right _ _)
    unfold lk_g
    rw [← Nat.mod_mul_right_div_self, ← Nat.mod_mul_right_div_self]
    congr 1
    unfold lk_w
    rw [Nat.add_mod, Nat.mod_eq_zero_of_dvd (Nat.dvd_trans hdv1 (Nat.dvd_mul_right _ _)), Nat.zero_add, Nat.mod_mod, Nat.add_mod, Nat.mod_eq_zero_of_dvd (Nat.dvd_trans hdv (Nat.dvd_mul_right _ _)), Nat.zero_add, Nat.mod_mod, Nat.mod_mod_of_dvd _ hdv]
  · have hk : 8 ^ r = 8 ^ (p + 1) * 8 ^ (r - (p + 1)) := by
      rw [← Nat.pow_add]
      congr 1
      omega
    have hlt : 8 ^ p * (v % 8) + q % 8 ^ p < 8 ^ (p + 1) := by
      have h1 : 8 ^ p * (v % 8 + 1) ≤ 8 ^ p * 8 := Nat.mul_le_mul_left _ (by omega)
      rw [Nat.mul_add, Nat.mul_one] at h1
      rw [Nat.pow_succ]
      omega
    have e : lk_w q p v / 8 ^ (p + 1) = q / 8 ^ (p + 1) := by
      unfold lk_w
      rw [Nat.mul_add_div (lk_pw _), Nat.div_eq_of_lt hlt, Nat.add_zero]
    unfold lk_g
    rw [hk, ← Nat.div_div_eq_div_mul, ← Nat.div_div_eq_div_mul, e]
/-! effects: triples add, low, high -/
abbrev lk_T : Type := Int32 × Int32 × Int32
def lk_cl (x lo hi : Int32) : Int32 := if lo ≤ x then (if x ≤ hi then x else hi) else lo
def lk_tE (t e : lk_T) : lk_T := (t.1 + e.1, lk_cl (t.2.1 + e.1) e.2.1 e.2.2, lk_cl (t.2.2 + e.1) e.2.1 e.2.2)
/-- an entry's own effect -/
def lk_raw (cp kd am : Int32) : lk_T := if kd = 0 then (am, 0, cp) else if kd = 1 then (0, am, cp) else if kd = 2 then (0, 0, am) else (0, am, am)
/-- what the codes stand for: 0 nothing, 1 add f, 2 trim to s, 3 the one and then the other -/
def lk_v (f s : Int32) (k : Nat) : lk_T := if k = 0 then (0, 0, 20) else if k = 1 then lk_tE (0, 0, 20) (f, 0, 20) else if k = 2 then (0, 0, s) else lk_tE (lk_tE (0, 0, 20) (f, 0, 20)) (0, 0, s)
def lk_c (a b : Nat) : Nat := if a = 0 then b else if b = 0 then a else if a = 1 ∧ b = 2 then 3 else 4
def lk_ce (a b : Nat) : Nat := if b < 3 then lk_c a b else 4
def lk_ok (f s : Int32) : Prop := ∃ i j : Nat, i < 41 ∧ j < 21 ∧ f = nI i - 20 ∧ s = nI j
theorem lk_d1 : ∀ i, i < 41 → ∀ j, j < 21 → ∀ k, k < 4 → lk_tE (0, 0, 20) (lk_v (nI i - 20) (nI j) k) = lk_v (nI i - 20) (nI j) k ∧ lk_tE (lk_v (nI i - 20) (nI j) k) (0, 0, 20) = lk_v (nI i - 20) (nI j) k := by decide +kernel
def lk_E (f s : Int32) (k : Nat) (t : lk_T) : Prop := k < 4 → t = lk_v f s k
def lk_N (f s : Int32) (k : Nat) (kd am : Int32) : Prop := (k = 0 → kd = 0 ∧ am = 0) ∧ (k = 1 → kd = 0 ∧ am = f) ∧ (k = 2 → kd = 2 ∧ am = s)
theorem lk_c_lt {a b : Nat} (ha : a < 8) (hb : b < 8) : lk_c a b < 8 := by
  unfold lk_c
  split
  · exact hb
  · split
    · exact ha
    · split <;> omega
theorem lk_ce_lt {a b : Nat} (ha : a < 8) : lk_ce a b < 8 := by
  unfold lk_ce
  split
  · exact lk_c_lt ha (by omega)
  · omega
theorem lk_Ec {f s : Int32} {a b : Nat} {t t' : lk_T} (hk : lk_ok f s) (h : lk_E f s a t) (h' : lk_E f s b t') : lk_E f s (lk_c a b) (lk_tE t t') := by
  intro hc
  obtain ⟨i, j, hi, hj, rfl, rfl⟩ := hk
  unfold lk_c at hc ⊢
  by_cases a0 : a = 0
  · rw [if_pos a0] at hc ⊢
    rw [h (by omega), h' hc, a0]
    exact (lk_d1 i hi j hj b hc).1
  · rw [if_neg a0] at hc ⊢
    by_cases b0 : b = 0
    · rw [if_pos b0] at hc ⊢
      rw [h hc, h' (by omega), b0]
      exact (lk_d1 i hi j hj a hc).2
    · rw [if_neg b0] at hc ⊢
      by_cases ab : a = 1 ∧ b = 2
      · rw [if_pos ab]
        rw [h (by omega), h' (by omega), ab.1, ab.2]
        rfl
      · rw [if_neg ab] at hc
        omega
theorem lk_Ee {f s : Int32} {a b : Nat} {t : lk_T} {kd am : Int32} (hk : lk_ok f s) (h : lk_E f s a t) (h' : lk_N f s b kd am) : lk_E f s (lk_ce a b) (lk_tE t (lk_raw 20 kd am)) := by
  intro hc
  obtain ⟨i, j, hi, hj, rfl, rfl⟩ := hk
  obtain ⟨n0, n1, n2⟩ := h'
  unfold lk_ce at hc ⊢
  by_cases b3 : b < 3
  · rw [if_pos b3] at hc ⊢
    unfold lk_c at hc ⊢
    by_cases a0 : a = 0
    · rw [if_pos a0] at hc ⊢
      rw [h (by omega), a0]
      rcases (show b = 0 ∨ b = 1 ∨ b = 2 by omega) with e | e | e
      · rw [(n0 e).1, (n0 e).2, e]
        exact (lk_d1 i hi j hj 0 (by omega)).1
      · rw [(n1 e).1, (n1 e).2, e]
        rfl
      · rw [(n2 e).1, (n2 e).2, e]
        exact (lk_d1 i hi j hj 2 (by omega)).1
    · rw [if_neg a0] at hc ⊢
      by_cases b0 : b = 0
      · rw [if_pos b0] at hc ⊢
        rw [h hc, (n0 b0).1, (n0 b0).2]
        exact (lk_d1 i hi j hj a hc).2
      · rw [if_neg b0] at hc ⊢
        by_cases ab : a = 1 ∧ b = 2
        · rw [if_pos ab]
          rw [h (by omega), (n2 ab.2).1, (n2 ab.2).2, ab.1]
          rfl
        · rw [if_neg ab] at hc
          omega
  · rw [if_neg b3] at hc
    omega
/-- a sum that may be unknown: 7 -/
def lk_sat (a b c : Nat) : Nat := if a < 7 ∧ b < 7 ∧ a + b + c < 7 then a + b + c else 7
theorem lk_sat_lt (a b c : Nat) : lk_sat a b c < 8 := by
  unfold lk_sat
  split <;> omega
theorem lk_sat_of {a b c : Nat} (h : lk_sat a b c < 7) : a < 7 ∧ b < 7 ∧ lk_sat a b c = a + b + c := by
  unfold lk_sat at h ⊢
  by_cases e : a < 7 ∧ b < 7 ∧ a + b + c < 7
  · rw [if_pos e]
    exact ⟨e.1, e.2.1, rfl⟩
  · rw [if_neg e] at h
    omega
theorem lk_i4 (n v : Nat) : nI n * 4 + nI v = nI (n * 4 + v) := by
  rw [show (4 : Int32) = nI 4 from rfl, pk_mul, nI_add]
end
section
/-! a state matches a picture -/
def lk_A (q b : Nat) (a : Nat → Int32) : Prop := ∀ i, i < 8 → a i = nI (lk_g q (b + i))
def lk_B (q b : Nat) (a : Nat → Int32) : Prop := ∀ i, i < 8 → lk_g q (b + i) < 7 → a i = nI (lk_g q (b + i))
def lk_AN (f s : Int32) (q : Nat) (x y : Nat → Int32) : Prop := ∀ i, i < 8 → lk_N f s (lk_g q (64 + i)) (x i) (y i)
def lk_AE (f s : Int32) (q b v : Nat) (x y z : Nat → Int32) : Prop := ∀ i, i < 8 → lk_E f s (lk_g q (b + i)) (x (i * 4 + v), y (i * 4 + v), z (i * 4 + v))
theorem lk_A_k {q b p v : Nat} {a : Nat → Int32} (h : lk_A q b a) (hp : p < b ∨ b + 8 ≤ p) : lk_A (lk_w q p v) b a := by
  intro i hi
  rw [lk_gw_n (by omega)]
  exact h i hi
theorem lk_B_k {q b p v : Nat} {a : Nat → Int32} (h : lk_B q b a) (hp : p < b ∨ b + 8 ≤ p) : lk_B (lk_w q p v) b a := by
  intro i hi
  rw [lk_gw_n (by omega)]
  exact h i hi
theorem lk_AN_k {f s : Int32} {q p v : Nat} {x y : Nat → Int32} (h : lk_AN f s q x y) (hp : p < 64 ∨ 64 + 8 ≤ p) : lk_AN f s (lk_w q p v) x y := by
  intro i hi
  rw [lk_gw_n (by omega)]
  exact h i hi
theorem lk_AE_k {f s : Int32} {q b w p v : Nat} {x y z : Nat → Int32} (h : lk_AE f s q b w x y z) (hp : p < b ∨ b + 8 ≤ p) : lk_AE f s (lk_w q p v) b w x y z := by
  intro i hi
  rw [lk_gw_n (by omega)]
  exact h i hi
theorem lk_A_u {q b n v : Nat} {a : Nat → Int32} {x : Int32} (h : lk_A q b a) (hn : n < 8) (hv : v < 8) (hx : x = nI v) : lk_A (lk_w q (b + n) v) b (upd a (nI n).toNatClampNeg x) := by
  intro i hi
  rw [nI_clamp (by omega)]
  by_cases e : i = n
  · rw [e, pk_us, lk_gw_s hv, hx]
  · rw [pk_un e, lk_gw_n (by omega)]
    exact h i hi
theorem lk_B_u {q b n v : Nat} {a : Nat → Int32} {x : Int32} (h : lk_B q b a) (hn : n < 8) (hv : v < 8) (hx : v < 7 → x = nI v) : lk_B (lk_w q (b + n) v) b (upd a (nI n).toNatClampNeg x) := by
  intro i hi
  rw [nI_clamp (by omega)]
  by_cases e : i = n
  · rw [e, pk_us, lk_gw_s hv]
    exact hx
  · rw [pk_un e, lk_gw_n (by omega)]
    exact h i hi
theorem lk_AN_u {f s : Int32} {q n v : Nat} {a b : Nat → Int32} {x y : Int32} (h : lk_AN f s q a b) (hn : n < 8) (hv : v < 8) (hx : lk_N f s v x y) : lk_AN f s (lk_w q (64 + n) v) (upd a (nI n).toNatClampNeg x) (upd b (nI n).toNatClampNeg y) := by
  intro i hi
  rw [nI_clamp (by omega)]
  by_cases e : i = n
  · rw [e, pk_us, pk_us, lk_gw_s hv]
    exact hx
  · rw [pk_un e, pk_un e, lk_gw_n (by omega)]
    exact h i hi
theorem lk_AE_u {f s : Int32} {q b w n v : Nat} {a c d : Nat → Int32} {x y z : Int32} (h : lk_AE f s q b w a c d) (hn : n < 8) (hv : v < 8) (hx : lk_E f s v (x, y, z)) : lk_AE f s (lk_w q (b + n) v) b w (upd a (n * 4 + w) x) (upd c (n * 4 + w) y) (upd d (n * 4 + w) z) := by
  intro i hi
  by_cases e : i = n
  · rw [e, pk_us, pk_us, pk_us, lk_gw_s hv]
    exact hx
  · rw [pk_un (by omega), pk_un (by omega), pk_un (by omega), lk_gw_n (by omega)]
    exact h i hi
theorem lk_AE_o {f s : Int32} {q b w m : Nat} {a c d : Nat → Int32} {x y z : Int32} (h : lk_AE f s q b w a c d) (hm : ∀ i, i * 4 + w ≠ m) : lk_AE f s q b w (upd a m x) (upd c m y) (upd d m z) := by
  intro i hi
  rw [pk_un (hm i), pk_un (hm i), pk_un (hm i)]
  exact h i hi
def lk_M (f s : Int32) (q : Nat) (u : St2) : Prop := match u with
  | (sp, rt, en, cp, rm, xA, xL, xH, a1, a2, a3, a4, a5, a6, a7, a8, a9, a10, a11, a12, a13, a14, a15, a16, a17, a18, a19) => sp = nI (40 - lk_g q 0) ∧ rt = nI (lk_g q 1) ∧ en = nI (lk_g q 2) ∧ cp = 20 ∧ rm = 2 ∧ lk_A q 8 a1 ∧ lk_A q 16 a2 ∧ lk_A q 24 a3 ∧ lk_B q 32 a4 ∧ lk_A q 40 a7 ∧ (∀ i, i < 8 → a8 i = 0) ∧ lk_A q 48 a9 ∧ lk_B q 56 a10 ∧ lk_AN f s q a5 a6 ∧ lk_AE f s q 72 0 a13 a14 a15 ∧ lk_AE f s q 80 2 a13 a14 a15 ∧ (∀ i, i < 40 → a16 i = nI (42 - i))
theorem lk_mk {f s : Int32} {q : Nat} {sp rt en cp rm xA xL xH : Int32} {a1 a2 a3 a4 a5 a6 a7 a8 a9 a10 a11 a12 a13 a14 a15 a16 a17 a18 a19 : Nat → Int32} (h1 : sp = nI (40 - lk_g q 0)) (h2 : rt = nI (lk_g q 1)) (h3 : en = nI (lk_g q 2)) (h4 : cp = 20) (h5 : rm = 2) (h6 : lk_A q 8 a1) (h7 : lk_A q 16 a2) (h8 : lk_A q 24 a3) (h9 : lk_B q 32 a4) (h10 : lk_A q 40 a7) (h11 : ∀ i, i < 8 → a8 i = 0) (h12 : lk_A q 48 a9) (h13 : lk_B q 56 a10) (h14 : lk_AN f s q a5 a6) (h15 : lk_AE f s q 72 0 a13 a14 a15) (h16 : lk_AE f s q 80 2 a13 a14 a15) (h17 : ∀ i, i < 40 → a16 i = nI (42 - i)) : lk_M f s q (sp, rt, en, cp, rm, xA, xL, xH, a1, a2, a3, a4, a5, a6, a7, a8, a9, a10, a11, a12, a13, a14, a15, a16, a17, a18, a19) :=
  And.intro h1 (And.intro h2 (And.intro h3 (And.intro h4 (And.intro h5 (And.intro h6 (And.intro h7 (And.intro h8 (And.intro h9 (And.intro h10 (And.intro h11 (And.intro h12 (And.intro h13 (And.intro h14 (And.intro h15 (And.intro h16 h17)))))))))))))))
theorem lk_s_sp {f s : Int32} {q : Nat} {sp rt en cp rm xA xL xH : Int32} {a1 a2 a3 a4 a5 a6 a7 a8 a9 a10 a11 a12 a13 a14 a15 a16 a17 a18 a19 : Nat → Int32} {v : Nat} {x : Int32} (h : lk_M f s q (sp, rt, en, cp, rm, xA, xL, xH, a1, a2, a3, a4, a5, a6, a7, a8, a9, a10, a11, a12, a13, a14, a15, a16, a17, a18, a19)) (hv : v < 8) (hx : x = nI (40 - v)) : lk_M f s (lk_w q (0) v) (x, rt, en, cp, rm, xA, xL, xH, a1, a2, a3, a4, a5, a6, a7, a8, a9, a10, a11, a12, a13, a14, a15, a16, a17, a18, a19) := by
  obtain ⟨h1, h2, h3, h4, h5, h6, h7, h8, h9, h10, h11, h12, h13, h14, h15, h16, h17⟩ := h
  exact lk_mk (by rw [lk_gw_s hv]; exact hx) (by rw [lk_gw_n (by omega)]; exact h2) (by rw [lk_gw_n (by omega)]; exact h3) (h4) (h5) (lk_A_k h6 (by omega)) (lk_A_k h7 (by omega)) (lk_A_k h8 (by omega)) (lk_B_k h9 (by omega)) (lk_A_k h10 (by omega)) (h11) (lk_A_k h12 (by omega)) (lk_B_k h13 (by omega)) (lk_AN_k h14 (by omega)) (lk_AE_k h15 (by omega)) (lk_AE_k h16 (by omega)) (h17)
theorem lk_s_rt {f s : Int32} {q : Nat} {sp rt en cp rm xA xL xH : Int32} {a1 a2 a3 a4 a5 a6 a7 a8 a9 a10 a11 a12 a13 a14 a15 a16 a17 a18 a19 : Nat → Int32} {v : Nat} {x : Int32} (h : lk_M f s q (sp, rt, en, cp, rm, xA, xL, xH, a1, a2, a3, a4, a5, a6, a7, a8, a9, a10, a11, a12, a13, a14, a15, a16, a17, a18, a19)) (hv : v < 8) (hx : x = nI v) : lk_M f s (lk_w q (1) v) (sp, x, en, cp, rm, xA, xL, xH, a1, a2, a3, a4, a5, a6, a7, a8, a9, a10, a11, a12, a13, a14, a15, a16, a17, a18, a19) := by
  obtain ⟨h1, h2, h3, h4, h5, h6, h7, h8, h9, h10, h11, h12, h13, h14, h15, h16, h17⟩ := h
  exact lk_mk (by rw [lk_gw_n (by omega)]; exact h1) (by rw [lk_gw_s hv]; exact hx) (by rw [lk_gw_n (by omega)]; exact h3) (h4) (h5) (lk_A_k h6 (by omega)) (lk_A_k h7 (by omega)) (lk_A_k h8 (by omega)) (lk_B_k h9 (by omega)) (lk_A_k h10 (by omega)) (h11) (lk_A_k h12 (by omega)) (lk_B_k h13 (by omega)) (lk_AN_k h14 (by omega)) (lk_AE_k h15 (by omega)) (lk_AE_k h16 (by omega)) (h17)
theorem lk_s_en {f s : Int32} {q : Nat} {sp rt en cp rm xA xL xH : Int32} {a1 a2 a3 a4 a5 a6 a7 a8 a9 a10 a11 a12 a13 a14 a15 a16 a17 a18 a19 : Nat → Int32} {v : Nat} {x : Int32} (h : lk_M f s q (sp, rt, en, cp, rm, xA, xL, xH, a1, a2, a3, a4, a5, a6, a7, a8, a9, a10, a11, a12, a13, a14, a15, a16, a17, a18, a19)) (hv : v < 8) (hx : x = nI v) : lk_M f s (lk_w q (2) v) (sp, rt, x, cp, rm, xA, xL, xH, a1, a2, a3, a4, a5, a6, a7, a8, a9, a10, a11, a12, a13, a14, a15, a16, a17, a18, a19) := by
  obtain ⟨h1, h2, h3, h4, h5, h6, h7, h8, h9, h10, h11, h12, h13, h14, h15, h16, h17⟩ := h
  exact lk_mk (by rw [lk_gw_n (by omega)]; exact h1) (by rw [lk_gw_n (by omega)]; exact h2) (by rw [lk_gw_s hv]; exact hx) (h4) (h5) (lk_A_k h6 (by omega)) (lk_A_k h7 (by omega)) (lk_A_k h8 (by omega)) (lk_B_k h9 (by omega)) (lk_A_k h10 (by omega)) (h11) (lk_A_k h12 (by omega)) (lk_B_k h13 (by omega)) (lk_AN_k h14 (by omega)) (lk_AE_k h15 (by omega)) (lk_AE_k h16 (by omega)) (h17)
theorem lk_s_lf {f s : Int32} {q : Nat} {sp rt en cp rm xA xL xH : Int32} {a1 a2 a3 a4 a5 a6 a7 a8 a9 a10 a11 a12 a13 a14 a15 a16 a17 a18 a19 : Nat → Int32} {n v : Nat} {x : Int32} (h : lk_M f s q (sp, rt, en, cp, rm, xA, xL, xH, a1, a2, a3, a4, a5, a6, a7, a8, a9, a10, a11, a12, a13, a14, a15, a16, a17, a18, a19)) (hn : n < 8) (hv : v < 8) (hx : x = nI v) : lk_M f s (lk_w q (8 + n) v) (sp, rt, en, cp, rm, xA, xL, xH, upd a1 (nI n).toNatClampNeg x, a2, a3, a4, a5, a6, a7, a8, a9, a10, a11, a12, a13, a14, a15, a16, a17, a18, a19) := by
  obtain ⟨h1, h2, h3, h4, h5, h6, h7, h8, h9, h10, h11, h12, h13, h14, h15, h16, h17⟩ := h
  exact lk_mk (by rw [lk_gw_n (by omega)]; exact h1) (by rw [lk_gw_n (by omega)]; exact h2) (by rw [lk_gw_n (by omega)]; exact h3) (h4) (h5) (lk_A_u h6 hn hv hx) (lk_A_k h7 (by omega)) (lk_A_k h8 (by omega)) (lk_B_k h9 (by omega)) (lk_A_k h10 (by omega)) (h11) (lk_A_k h12 (by omega)) (lk_B_k h13 (by omega)) (lk_AN_k h14 (by omega)) (lk_AE_k h15 (by omega)) (lk_AE_k h16 (by omega)) (h17)
theorem lk_s_ri {f s : Int32} {q : Nat} {sp rt en cp rm xA xL xH : Int32} {a1 a2 a3 a4 a5 a6 a7 a8 a9 a10 a11 a12 a13 a14 a15 a16 a17 a18 a19 : Nat → Int32} {n v : Nat} {x : Int32} (h : lk_M f s q (sp, rt, en, cp, rm, xA, xL, xH, a1, a2, a3, a4, a5, a6, a7, a8, a9, a10, a11, a12, a13, a14, a15, a16, a17, a18, a19)) (hn : n < 8) (hv : v < 8) (hx : x = nI v) : lk_M f s (lk_w q (16 + n) v) (sp, rt, en, cp, rm, xA, xL, xH, a1, upd a2 (nI n).toNatClampNeg x, a3, a4, a5, a6, a7, a8, a9, a10, a11, a12, a13, a14, a15, a16, a17, a18, a19) := by
  obtain ⟨h1, h2, h3, h4, h5, h6, h7, h8, h9, h10, h11, h12, h13, h14, h15, h16, h17⟩ := h
  exact lk_mk (by rw [lk_gw_n (by omega)]; exact h1) (by rw [lk_gw_n (by omega)]; exact h2) (by rw [lk_gw_n (by omega)]; exact h3) (h4) (h5) (lk_A_k h6 (by omega)) (lk_A_u h7 hn hv hx) (lk_A_k h8 (by omega)) (lk_B_k h9 (by omega)) (lk_A_k h10 (by omega)) (h11) (lk_A_k h12 (by omega)) (lk_B_k h13 (by omega)) (lk_AN_k h14 (by omega)) (lk_AE_k h15 (by omega)) (lk_AE_k h16 (by omega)) (h17)
theorem lk_s_up {f s : Int32} {q : Nat} {sp rt en cp rm xA xL xH : Int32} {a1 a2 a3 a4 a5 a6 a7 a8 a9 a10 a11 a12 a13 a14 a15 a16 a17 a18 a19 : Nat → Int32} {n v : Nat} {x : Int32} (h : lk_M f s q (sp, rt, en, cp, rm, xA, xL, xH, a1, a2, a3, a4, a5, a6, a7, a8, a9, a10, a11, a12, a13, a14, a15, a16, a17, a18, a19)) (hn : n < 8) (hv : v < 8) (hx : x = nI v) : lk_M f s (lk_w q (24 + n) v) (sp, rt, en, cp, rm, xA, xL, xH, a1, a2, upd a3 (nI n).toNatClampNeg x, a4, a5, a6, a7, a8, a9, a10, a11, a12, a13, a14, a15, a16, a17, a18, a19) := by
  obtain ⟨h1, h2, h3, h4, h5, h6, h7, h8, h9, h10, h11, h12, h13, h14, h15, h16, h17⟩ := h
  exact lk_mk (by rw [lk_gw_n (by omega)]; exact h1) (by rw [lk_gw_n (by omega)]; exact h2) (by rw [lk_gw_n (by omega)]; exact h3) (h4) (h5) (lk_A_k h6 (by omega)) (lk_A_k h7 (by omega)) (lk_A_u h8 hn hv hx) (lk_B_k h9 (by omega)) (lk_A_k h10 (by omega)) (h11) (lk_A_k h12 (by omega)) (lk_B_k h13 (by omega)) (lk_AN_k h14 (by omega)) (lk_AE_k h15 (by omega)) (lk_AE_k h16 (by omega)) (h17)
theorem lk_s_ct {f s : Int32} {q : Nat} {sp rt en cp rm xA xL xH : Int32} {a1 a2 a3 a4 a5 a6 a7 a8 a9 a10 a11 a12 a13 a14 a15 a16 a17 a18 a19 : Nat → Int32} {n v : Nat} {x : Int32} (h : lk_M f s q (sp, rt, en, cp, rm, xA, xL, xH, a1, a2, a3, a4, a5, a6, a7, a8, a9, a10, a11, a12, a13, a14, a15, a16, a17, a18, a19)) (hn : n < 8) (hv : v < 8) (hx : v < 7 → x = nI v) : lk_M f s (lk_w q (32 + n) v) (sp, rt, en, cp, rm, xA, xL, xH, a1, a2, a3, upd a4 (nI n).toNatClampNeg x, a5, a6, a7, a8, a9, a10, a11, a12, a13, a14, a15, a16, a17, a18, a19) := by
  obtain ⟨h1, h2, h3, h4, h5, h6, h7, h8, h9, h10, h11, h12, h13, h14, h15, h16, h17⟩ := h
  exact lk_mk (by rw [lk_gw_n (by omega)]; exact h1) (by rw [lk_gw_n (by omega)]; exact h2) (by rw [lk_gw_n (by omega)]; exact h3) (h4) (h5) (lk_A_k h6 (by omega)) (lk_A_k h7 (by omega)) (lk_A_k h8 (by omega)) (lk_B_u h9 hn hv hx) (lk_A_k h10 (by omega)) (h11) (lk_A_k h12 (by omega)) (lk_B_k h13 (by omega)) (lk_AN_k h14 (by omega)) (lk_AE_k h15 (by omega)) (lk_AE_k h16 (by omega)) (h17)
theorem lk_s_vd {f s : Int32} {q : Nat} {sp rt en cp rm xA xL xH : Int32} {a1 a2 a3 a4 a5 a6 a7 a8 a9 a10 a11 a12 a13 a14 a15 a16 a17 a18 a19 : Nat → Int32} {n v : Nat} {x : Int32} (h : lk_M f s q (sp, rt, en, cp, rm, xA, xL, xH, a1, a2, a3, a4, a5, a6, a7, a8, a9, a10, a11, a12, a13, a14, a15, a16, a17, a18, a19)) (hn : n < 8) (hv : v < 8) (hx : x = nI v) : lk_M f s (lk_w q (40 + n) v) (sp, rt, en, cp, rm, xA, xL, xH, a1, a2, a3, a4, a5, a6, upd a7 (nI n).toNatClampNeg x, a8, a9, a10, a11, a12, a13, a14, a15, a16, a17, a18, a19) := by
  obtain ⟨h1, h2, h3, h4, h5, h6, h7, h8, h9, h10, h11, h12, h13, h14, h15, h16, h17⟩ := h
  exact lk_mk (by rw [lk_gw_n (by omega)]; exact h1) (by rw [lk_gw_n (by omega)]; exact h2) (by rw [lk_gw_n (by omega)]; exact h3) (h4) (h5) (lk_A_k h6 (by omega)) (lk_A_k h7 (by omega)) (lk_A_k h8 (by omega)) (lk_B_k h9 (by omega)) (lk_A_u h10 hn hv hx) (h11) (lk_A_k h12 (by omega)) (lk_B_k h13 (by omega)) (lk_AN_k h14 (by omega)) (lk_AE_k h15 (by omega)) (lk_AE_k h16 (by omega)) (h17)
theorem lk_s_vb {f s : Int32} {q : Nat} {sp rt en cp rm xA xL xH : Int32} {a1 a2 a3 a4 a5 a6 a7 a8 a9 a10 a11 a12 a13 a14 a15 a16 a17 a18 a19 : Nat → Int32} {n v : Nat} {x : Int32} (h : lk_M f s q (sp, rt, en, cp, rm, xA, xL, xH, a1, a2, a3, a4, a5, a6, a7, a8, a9, a10, a11, a12, a13, a14, a15, a16, a17, a18, a19)) (hn : n < 8) (hv : v < 8) (hx : x = nI v) : lk_M f s (lk_w q (48 + n) v) (sp, rt, en, cp, rm, xA, xL, xH, a1, a2, a3, a4, a5, a6, a7, a8, upd a9 (nI n).toNatClampNeg x, a10, a11, a12, a13, a14, a15, a16, a17, a18, a19) := by
  obtain ⟨h1, h2, h3, h4, h5, h6, h7, h8, h9, h10, h11, h12, h13, h14, h15, h16, h17⟩ := h
  exact lk_mk (by rw [lk_gw_n (by omega)]; exact h1) (by rw [lk_gw_n (by omega)]; exact h2) (by rw [lk_gw_n (by omega)]; exact h3) (h4) (h5) (lk_A_k h6 (by omega)) (lk_A_k h7 (by omega)) (lk_A_k h8 (by omega)) (lk_B_k h9 (by omega)) (lk_A_k h10 (by omega)) (h11) (lk_A_u h12 hn hv hx) (lk_B_k h13 (by omega)) (lk_AN_k h14 (by omega)) (lk_AE_k h15 (by omega)) (lk_AE_k h16 (by omega)) (h17)
theorem lk_s_lv {f s : Int32} {q : Nat} {sp rt en cp rm xA xL xH : Int32} {a1 a2 a3 a4 a5 a6 a7 a8 a9 a10 a11 a12 a13 a14 a15 a16 a17 a18 a19 : Nat → Int32} {n v : Nat} {x : Int32} (h : lk_M f s q (sp, rt, en, cp, rm, xA, xL, xH, a1, a2, a3, a4, a5, a6, a7, a8, a9, a10, a11, a12, a13, a14, a15, a16, a17, a18, a19)) (hn : n < 8) (hv : v < 8) (hx : v < 7 → x = nI v) : lk_M f s (lk_w q (56 + n) v) (sp, rt, en, cp, rm, xA, xL, xH, a1, a2, a3, a4, a5, a6, a7, a8, a9, upd a10 (nI n).toNatClampNeg x, a11, a12, a13, a14, a15, a16, a17, a18, a19) := by
  obtain ⟨h1, h2, h3, h4, h5, h6, h7, h8, h9, h10, h11, h12, h13, h14, h15, h16, h17⟩ := h
  exact lk_mk (by rw [lk_gw_n (by omega)]; exact h1) (by rw [lk_gw_n (by omega)]; exact h2) (by rw [lk_gw_n (by omega)]; exact h3) (h4) (h5) (lk_A_k h6 (by omega)) (lk_A_k h7 (by omega)) (lk_A_k h8 (by omega)) (lk_B_k h9 (by omega)) (lk_A_k h10 (by omega)) (h11) (lk_A_k h12 (by omega)) (lk_B_u h13 hn hv hx) (lk_AN_k h14 (by omega)) (lk_AE_k h15 (by omega)) (lk_AE_k h16 (by omega)) (h17)
theorem lk_s_ky {f s : Int32} {q : Nat} {sp rt en cp rm xA xL xH : Int32} {a1 a2 a3 a4 a5 a6 a7 a8 a9 a10 a11 a12 a13 a14 a15 a16 a17 a18 a19 : Nat → Int32} {n v : Nat} {x y : Int32} (h : lk_M f s q (sp, rt, en, cp, rm, xA, xL, xH, a1, a2, a3, a4, a5, a6, a7, a8, a9, a10, a11, a12, a13, a14, a15, a16, a17, a18, a19)) (hn : n < 8) (hv : v < 8) (hx : lk_N f s v x y) : lk_M f s (lk_w q (64 + n) v) (sp, rt, en, cp, rm, xA, xL, xH, a1, a2, a3, a4, upd a5 (nI n).toNatClampNeg x, upd a6 (nI n).toNatClampNeg y, a7, a8, a9, a10, a11, a12, a13, a14, a15, a16, a17, a18, a19) := by
  obtain ⟨h1, h2, h3, h4, h5, h6, h7, h8, h9, h10, h11, h12, h13, h14, h15, h16, h17⟩ := h
  exact lk_mk (by rw [lk_gw_n (by omega)]; exact h1) (by rw [lk_gw_n (by omega)]; exact h2) (by rw [lk_gw_n (by omega)]; exact h3) (h4) (h5) (lk_A_k h6 (by omega)) (lk_A_k h7 (by omega)) (lk_A_k h8 (by omega)) (lk_B_k h9 (by omega)) (lk_A_k h10 (by omega)) (h11) (lk_A_k h12 (by omega)) (lk_B_k h13 (by omega)) (lk_AN_u h14 hn hv hx) (lk_AE_k h15 (by omega)) (lk_AE_k h16 (by omega)) (h17)
theorem lk_s_e0 {f s : Int32} {q : Nat} {sp rt en cp rm xA xL xH : Int32} {a1 a2 a3 a4 a5 a6 a7 a8 a9 a10 a11 a12 a13 a14 a15 a16 a17 a18 a19 : Nat → Int32} {n v : Nat} {x y z : Int32} (h : lk_M f s q (sp, rt, en, cp, rm, xA, xL, xH, a1, a2, a3, a4, a5, a6, a7, a8, a9, a10, a11, a12, a13, a14, a15, a16, a17, a18, a19)) (hn : n < 8) (hv : v < 8) (hx : lk_E f s v (x, y, z)) : lk_M f s (lk_w q (72 + n) v) (sp, rt, en, cp, rm, xA, xL, xH, a1, a2, a3, a4, a5, a6, a7, a8, a9, a10, a11, a12, upd a13 (n * 4 + 0) x, upd a14 (n * 4 + 0) y, upd a15 (n * 4 + 0) z, a16, a17, a18, a19) := by
  obtain ⟨h1, h2, h3, h4, h5, h6, h7, h8, h9, h10, h11, h12, h13, h14, h15, h16, h17⟩ := h
  exact lk_mk (by rw [lk_gw_n (by omega)]; exact h1) (by rw [lk_gw_n (by omega)]; exact h2) (by rw [lk_gw_n (by omega)]; exact h3) (h4) (h5) (lk_A_k h6 (by omega)) (lk_A_k h7 (by omega)) (lk_A_k h8 (by omega)) (lk_B_k h9 (by omega)) (lk_A_k h10 (by omega)) (h11) (lk_A_k h12 (by omega)) (lk_B_k h13 (by omega)) (lk_AN_k h14 (by omega)) (lk_AE_u h15 hn hv hx) (lk_AE_o (lk_AE_k h16 (by omega)) (by omega)) (h17)
theorem lk_s_e2 {f s : Int32} {q : Nat} {sp rt en cp rm xA xL xH : Int32} {a1 a2 a3 a4 a5 a6 a7 a8 a9 a10 a11 a12 a13 a14 a15 a16 a17 a18 a19 : Nat → Int32} {n v : Nat} {x y z : Int32} (h : lk_M f s q (sp, rt, en, cp, rm, xA, xL, xH, a1, a2, a3, a4, a5, a6, a7, a8, a9, a10, a11, a12, a13, a14, a15, a16, a17, a18, a19)) (hn : n < 8) (hv : v < 8) (hx : lk_E f s v (x, y, z)) : lk_M f s (lk_w q (80 + n) v) (sp, rt, en, cp, rm, xA, xL, xH, a1, a2, a3, a4, a5, a6, a7, a8, a9, a10, a11, a12, upd a13 (n * 4 + 2) x, upd a14 (n * 4 + 2) y, upd a15 (n * 4 + 2) z, a16, a17, a18, a19) := by
  obtain ⟨h1, h2, h3, h4, h5, h6, h7, h8, h9, h10, h11, h12, h13, h14, h15, h16, h17⟩ := h
  exact lk_mk (by rw [lk_gw_n (by omega)]; exact h1) (by rw [lk_gw_n (by omega)]; exact h2) (by rw [lk_gw_n (by omega)]; exact h3) (h4) (h5) (lk_A_k h6 (by omega)) (lk_A_k h7 (by omega)) (lk_A_k h8 (by omega)) (lk_B_k h9 (by omega)) (lk_A_k h10 (by omega)) (h11) (lk_A_k h12 (by omega)) (lk_B_k h13 (by omega)) (lk_AN_k h14 (by omega)) (lk_AE_o (lk_AE_k h15 (by omega)) (by omega)) (lk_AE_u h16 hn hv hx) (h17)
theorem lk_s_eo {f s : Int32} {q : Nat} {sp rt en cp rm xA xL xH : Int32} {a1 a2 a3 a4 a5 a6 a7 a8 a9 a10 a11 a12 a13 a14 a15 a16 a17 a18 a19 : Nat → Int32} {m : Nat} {x y z : Int32} (h : lk_M f s q (sp, rt, en, cp, rm, xA, xL, xH, a1, a2, a3, a4, a5, a6, a7, a8, a9, a10, a11, a12, a13, a14, a15, a16, a17, a18, a19)) (hm : ∀ i, i * 4 + 0 ≠ m ∧ i * 4 + 2 ≠ m) : lk_M f s q (sp, rt, en, cp, rm, xA, xL, xH, a1, a2, a3, a4, a5, a6, a7, a8, a9, a10, a11, a12, upd a13 m x, upd a14 m y, upd a15 m z, a16, a17, a18, a19) := by
  obtain ⟨h1, h2, h3, h4, h5, h6, h7, h8, h9, h10, h11, h12, h13, h14, h15, h16, h17⟩ := h
  exact lk_mk h1 h2 h3 h4 h5 h6 h7 h8 h9 h10 h11 h12 h13 h14 (lk_AE_o h15 (fun i => (hm i).1)) (lk_AE_o h16 (fun i => (hm i).2)) h17
theorem lk_s_tu {f s : Int32} {q : Nat} {sp rt en cp rm xA xL xH : Int32} {a1 a2 a3 a4 a5 a6 a7 a8 a9 a10 a11 a12 a13 a14 a15 a16 a17 a18 a19 : Nat → Int32} {n : Nat} (h : lk_M f s q (sp, rt, en, cp, rm, xA, xL, xH, a1, a2, a3, a4, a5, a6, a7, a8, a9, a10, a11, a12, a13, a14, a15, a16, a17, a18, a19)) : lk_M f s q (sp, rt, en, cp, rm, xA, xL, xH, a1, a2, a3, a4, a5, a6, a7, upd a8 n 0, a9, a10, a11, a12, a13, a14, a15, a16, a17, a18, a19) := by
  obtain ⟨h1, h2, h3, h4, h5, h6, h7, h8, h9, h10, h11, h12, h13, h14, h15, h16, h17⟩ := h
  refine lk_mk h1 h2 h3 h4 h5 h6 h7 h8 h9 h10 (fun i hi => ?_) h12 h13 h14 h15 h16 h17
  by_cases e : i = n
  · rw [e, pk_us]
  · rw [pk_un e]
    exact h11 i hi
/-- what the picture doesn't hold may be anything -/
theorem lk_s_fr {f s : Int32} {q : Nat} {sp rt en cp rm xA xL xH : Int32} {a1 a2 a3 a4 a5 a6 a7 a8 a9 a10 a11 a12 a13 a14 a15 a16 a17 a18 a19 : Nat → Int32} {yA yL yH : Int32} {b11 b12 : Nat → Int32} (h : lk_M f s q (sp, rt, en, cp, rm, xA, xL, xH, a1, a2, a3, a4, a5, a6, a7, a8, a9, a10, a11, a12, a13, a14, a15, a16, a17, a18, a19)) : lk_M f s q (sp, rt, en, cp, rm, yA, yL, yH, a1, a2, a3, a4, a5, a6, a7, a8, a9, a10, b11, b12, a13, a14, a15, a16, a17, a18, a19) := by
  obtain ⟨h1, h2, h3, h4, h5, h6, h7, h8, h9, h10, h11, h12, h13, h14, h15, h16, h17⟩ := h
  exact lk_mk h1 h2 h3 h4 h5 h6 h7 h8 h9 h10 h11 h12 h13 h14 h15 h16 h17
/-- a curried predicate at a state -/
def lk_ap (J : Int32 → Int32 → Int32 → Int32 → Int32 → Int32 → Int32 → Int32 → (Nat → Int32) → (Nat → Int32) → (Nat → Int32) → (Nat → Int32) → (Nat → Int32) → (Nat → Int32) → (Nat → Int32) → (Nat → Int32) → (Nat → Int32) → (Nat → Int32) → (Nat → Int32) → (Nat → Int32) → (Nat → Int32) → (Nat → Int32) → (Nat → Int32) → (Nat → Int32) → (Nat → Int32) → (Nat → Int32) → (Nat → Int32) → Prop) (u : St2) : Prop := match u with
  | (sp, rt, en, cp, rm, xA, xL, xH, a1, a2, a3, a4, a5, a6, a7, a8, a9, a10, a11, a12, a13, a14, a15, a16, a17, a18, a19) => J sp rt en cp rm xA xL xH a1 a2 a3 a4 a5 a6 a7 a8 a9 a10 a11 a12 a13 a14 a15 a16 a17 a18 a19
end
section
/-! the effects' methods and pull -/
theorem lk_clamped {post : Int32 → Prop} {x lo hi : Int32} (h : post (lk_cl x lo hi)) : wpX_clamped post () x lo hi := by
  unfold lk_cl at h
  refine br_c (fun a => br_c (fun b => ?_) (fun b => ?_)) (fun a => ?_)
  · rw [if_pos a, if_pos b] at h
    exact h
  · rw [if_pos a, if_neg b] at h
    exact h
  · rw [if_neg a] at h
    exact h
theorem lk_start {post : St2 → Prop} {sp rt en cp rm xA xL xH : Int32} {a1 a2 a3 a4 a5 a6 a7 a8 a9 a10 a11 a12 a13 a14 a15 a16 a17 a18 a19 : Nat → Int32} (h : post (sp, rt, en, cp, rm, 0, 0, cp, a1, a2, a3, a4, a5, a6, a7, a8, a9, a10, a11, a12, a13, a14, a15, a16, a17, a18, a19)) : wpX_startEffect post (sp, rt, en, cp, rm, xA, xL, xH, a1, a2, a3, a4, a5, a6, a7, a8, a9, a10, a11, a12, a13, a14, a15, a16, a17, a18, a19) := h
theorem lk_thenE {post : St2 → Prop} {sp rt en cp rm xA xL xH : Int32} {a1 a2 a3 a4 a5 a6 a7 a8 a9 a10 a11 a12 a13 a14 a15 a16 a17 a18 a19 : Nat → Int32} {p0 p1 p2 : Int32} (h : ∀ t : lk_T, t = lk_tE (xA, xL, xH) (p0, p1, p2) → post (sp, rt, en, cp, rm, t.1, t.2.1, t.2.2, a1, a2, a3, a4, a5, a6, a7, a8, a9, a10, a11, a12, a13, a14, a15, a16, a17, a18, a19)) : wpX_thenEffect post (sp, rt, en, cp, rm, xA, xL, xH, a1, a2, a3, a4, a5, a6, a7, a8, a9, a10, a11, a12, a13, a14, a15, a16, a17, a18, a19) p0 p1 p2 := by
  unfold wpX_thenEffect
  exact lk_clamped (lk_clamped (nm_e (h _ rfl)))
theorem lk_thenN {post : St2 → Prop} {sp rt en cp rm xA xL xH : Int32} {a1 a2 a3 a4 a5 a6 a7 a8 a9 a10 a11 a12 a13 a14 a15 a16 a17 a18 a19 : Nat → Int32} {n : Nat} (hn : n < 8) (h : ∀ t : lk_T, t = lk_tE (xA, xL, xH) (lk_raw cp (a5 n) (a6 n)) → post (sp, rt, en, cp, rm, t.1, t.2.1, t.2.2, a1, a2, a3, a4, a5, a6, a7, a8, a9, a10, a11, a12, a13, a14, a15, a16, a17, a18, a19)) : wpX_thenEntry post (sp, rt, en, cp, rm, xA, xL, xH, a1, a2, a3, a4, a5, a6, a7, a8, a9, a10, a11, a12, a13, a14, a15, a16, a17, a18, a19) (nI n) := by
  have I : vp_in (nI n) 43 := pk_in n 43 (by omega)
  have c : (nI n).toNatClampNeg = n := nI_clamp (by omega)
  unfold wpX_thenEntry
  rw [c]
  refine ⟨I, nm_e ⟨I, br_c (fun e => ?_) (fun e0 => ⟨I, br_c (fun e => ?_) (fun e1 => ⟨I, br_c (fun e => ?_) (fun e => ?_)⟩)⟩)⟩⟩
  · refine lk_thenE (fun t ht => ?_)
    exact h t (by rw [ht]; unfold lk_raw; rw [if_pos e])
  · refine lk_thenE (fun t ht => ?_)
    exact h t (by rw [ht]; unfold lk_raw; rw [if_neg e0, if_pos e])
  · refine lk_thenE (fun t ht => ?_)
    exact h t (by rw [ht]; unfold lk_raw; rw [if_neg e0, if_neg e1, if_pos e])
  · refine lk_thenE (fun t ht => ?_)
    exact h t (by rw [ht]; unfold lk_raw; rw [if_neg e0, if_neg e1, if_neg e])
theorem lk_249 {post : St2 → Prop} {J : Int32 → Int32 → Int32 → Int32 → Int32 → Int32 → Int32 → Int32 → Int32 → (Nat → Int32) → (Nat → Int32) → (Nat → Int32) → (Nat → Int32) → (Nat → Int32) → (Nat → Int32) → (Nat → Int32) → (Nat → Int32) → (Nat → Int32) → (Nat → Int32) → (Nat → Int32) → (Nat → Int32) → (Nat → Int32) → (Nat → Int32) → (Nat → Int32) → (Nat → Int32) → (Nat → Int32) → (Nat → Int32) → (Nat → Int32) → Prop} {x2 x3 x5 x6 x9 : Int32} {sp rt en cp rm xA xL xH : Int32} {a1 a2 a3 a4 a5 a6 a7 a8 a9 a10 a11 a12 a13 a14 a15 a16 a17 a18 a19 : Nat → Int32} {n e2 e3 : Nat} (h9 : x9 = nI e2) (he2 : e2 < 172) (h3 : nI n * 4 + x6 = nI e3) (he3 : e3 < 172) (h : ∀ t : lk_T, t = lk_tE (xA, xL, xH) (a13 e2, a14 e2, a15 e2) → J (x6 + 1) sp rt en cp rm (t.1) (t.2.1) (t.2.2) a1 a2 a3 a4 a5 a6 a7 a8 a9 a10 a11 a12 (upd a13 e3 t.1) (upd a14 e3 t.2.1) (upd a15 e3 t.2.2) a16 a17 a18 a19) : wX_pull_249 post J (nI n) x2 x3 x5 x6 x9 sp rt en cp rm xA xL xH a1 a2 a3 a4 a5 a6 a7 a8 a9 a10 a11 a12 a13 a14 a15 a16 a17 a18 a19 := by
  subst h9
  have I2 : vp_in (nI e2) 172 := pk_in e2 172 he2
  have I3 : vp_in (nI e3) 172 := pk_in e3 172 he3
  unfold wX_pull_249
  rw [h3, nI_clamp (show e2 < 2 ^ 31 by omega), nI_clamp (show e3 < 2 ^ 31 by omega)]
  exact ⟨I2, I2, I2, lk_thenE (fun t ht => ⟨I3, nm_e ⟨I3, nm_e ⟨I3, nm_e (nm_e (h t ht))⟩⟩⟩)⟩
theorem lk_244 {post : St2 → Prop} {J : Int32 → Int32 → Int32 → Int32 → Int32 → Int32 → Int32 → Int32 → Int32 → (Nat → Int32) → (Nat → Int32) → (Nat → Int32) → (Nat → Int32) → (Nat → Int32) → (Nat → Int32) → (Nat → Int32) → (Nat → Int32) → (Nat → Int32) → (Nat → Int32) → (Nat → Int32) → (Nat → Int32) → (Nat → Int32) → (Nat → Int32) → (Nat → Int32) → (Nat → Int32) → (Nat → Int32) → (Nat → Int32) → (Nat → Int32) → Prop} {x2 x3 x5 x6 x9 : Int32} {sp rt en cp rm xA xL xH : Int32} {a1 a2 a3 a4 a5 a6 a7 a8 a9 a10 a11 a12 a13 a14 a15 a16 a17 a18 a19 : Nat → Int32} {n e2 e3 : Nat} (hn : n < 8) (h9 : x9 = nI e2) (he2 : e2 < 172) (h3 : nI n * 4 + x6 = nI e3) (he3 : e3 < 172) (h : ∀ t : lk_T, t = lk_tE (lk_tE (xA, xL, xH) (lk_raw cp (a5 n) (a6 n))) (a13 e2, a14 e2, a15 e2) → J (x6 + 1) sp rt en cp rm (t.1) (t.2.1) (t.2.2) a1 a2 a3 a4 a5 a6 a7 a8 a9 a10 a11 a12 (upd a13 e3 t.1) (upd a14 e3 t.2.1) (upd a15 e3 t.2.2) a16 a17 a18 a19) : wX_pull_244 post J (nI n) x2 x3 x5 x6 x9 sp rt en cp rm xA xL xH a1 a2 a3 a4 a5 a6 a7 a8 a9 a10 a11 a12 a13 a14 a15 a16 a17 a18 a19 := by
  unfold wX_pull_244
  exact lk_thenN hn (fun t ht => lk_249 h9 he2 h3 he3 (fun t' ht' => h t' (by subst ht; exact ht')))
theorem lk_197 {post : St2 → Prop} {J : Int32 → Int32 → Int32 → Int32 → Int32 → Int32 → Int32 → Int32 → Int32 → (Nat → Int32) → (Nat → Int32) → (Nat → Int32) → (Nat → Int32) → (Nat → Int32) → (Nat → Int32) → (Nat → Int32) → (Nat → Int32) → (Nat → Int32) → (Nat → Int32) → (Nat → Int32) → (Nat → Int32) → (Nat → Int32) → (Nat → Int32) → (Nat → Int32) → (Nat → Int32) → (Nat → Int32) → (Nat → Int32) → (Nat → Int32) → Prop} {x2 x3 x5 x6 x8 z0 : Int32} {sp rt en cp rm xA xL xH : Int32} {a1 a2 a3 a4 a5 a6 a7 a8 a9 a10 a11 a12 a13 a14 a15 a16 a17 a18 a19 : Nat → Int32} {n e1 e2 e3 : Nat} (hn : n < 8) (h8 : x8 = nI e1) (he1 : e1 < 172) (h9 : z0 * 4 + x6 = nI e2) (he2 : e2 < 172) (h3 : nI n * 4 + x6 = nI e3) (he3 : e3 < 172)
    (h : ∀ t t1 t2 : lk_T, t1 = lk_tE (0, 0, cp) (a13 e1, a14 e1, a15 e1) → (((x6 < 2 ∨ x5 = 0) ∧ t2 = lk_tE t1 (lk_raw cp (a5 n) (a6 n))) ∨ (¬ x6 < 2 ∧ ¬ x5 = 0 ∧ t2 = t1)) → t = lk_tE t2 (a13 e2, a14 e2, a15 e2) → J (x6 + 1) sp rt en cp rm (t.1) (t.2.1) (t.2.2) a1 a2 a3 a4 a5 a6 a7 a8 a9 a10 a11 a12 (upd a13 e3 t.1) (upd a14 e3 t.2.1) (upd a15 e3 t.2.2) a16 a17 a18 a19) : wX_pull_197 post J (nI n) x2 x3 x5 x6 x8 z0 sp rt en cp rm xA xL xH a1 a2 a3 a4 a5 a6 a7 a8 a9 a10 a11 a12 a13 a14 a15 a16 a17 a18 a19 := by
  subst h8
  have I1 : vp_in (nI e1) 172 := pk_in e1 172 he1
  have c1 : (nI e1).toNatClampNeg = e1 := nI_clamp (by omega)
  unfold wX_pull_197
  refine nm_r h9 (lk_start ⟨I1, I1, I1, lk_thenE (fun t ht => ?_)⟩)
  rw [c1] at ht
  refine br_c (fun c => ?_) (fun c => br_c (fun d => ?_) (fun d => ?_))
  · exact lk_244 hn rfl he2 h3 he3 (fun t' ht' => h t' t _ ht (Or.inl ⟨Or.inl c, rfl⟩) ht')
  · exact lk_244 hn rfl he2 h3 he3 (fun t' ht' => h t' t _ ht (Or.inl ⟨Or.inr d, rfl⟩) ht')
  · exact lk_249 rfl he2 h3 he3 (fun t' ht' => h t' t _ ht (Or.inr ⟨c, d, rfl⟩) ht')
theorem lk_itF {post : St2 → Prop} {x5 : Int32} {sp rt en cp rm xA xL xH : Int32} {a1 a2 a3 a4 a5 a6 a7 a8 a9 a10 a11 a12 a13 a14 a15 a16 a17 a18 a19 : Nat → Int32} {n l r v k : Nat} (hn : n < 8) (hl : l < 8) (hr : r < 8) (hv : v < 4) (hb : nI v &&& 1 = 0)
    (h : ∀ t t1 t2 : lk_T, t1 = lk_tE (0, 0, cp) (a13 (l * 4 + v), a14 (l * 4 + v), a15 (l * 4 + v)) → (((nI v < 2 ∨ x5 = 0) ∧ t2 = lk_tE t1 (lk_raw cp (a5 n) (a6 n))) ∨ (¬ nI v < 2 ∧ ¬ x5 = 0 ∧ t2 = t1)) → t = lk_tE t2 (a13 (r * 4 + v), a14 (r * 4 + v), a15 (r * 4 + v)) → wX_pull_150 post (nI n) (nI l) (nI r) x5 k (nI (v + 1)) sp rt en cp rm (t.1) (t.2.1) (t.2.2) a1 a2 a3 a4 a5 a6 a7 a8 a9 a10 a11 a12 (upd a13 (n * 4 + v) t.1) (upd a14 (n * 4 + v) t.2.1) (upd a15 (n * 4 + v) t.2.2) a16 a17 a18 a19) : wX_pull_150 post (nI n) (nI l) (nI r) x5 (k + 1) (nI v) sp rt en cp rm xA xL xH a1 a2 a3 a4 a5 a6 a7 a8 a9 a10 a11 a12 a13 a14 a15 a16 a17 a18 a19 := by
  refine br_f (nI_ge (b := 4) hv (by decide)) (br_t hb ?_)
  unfold wX_pull_168
  refine br_f (by decide) ?_
  unfold wX_pull_180
  refine nm_r (lk_i4 l v) (br_f (by decide) ?_)
  exact lk_197 hn rfl (by omega) (lk_i4 r v) (by omega) (lk_i4 n v) (by omega) (fun t t1 t2 h1 h2 h3 => by rw [nI_1]; exact h t t1 t2 h1 h2 h3)
theorem lk_itB {post : St2 → Prop} {x5 : Int32} {sp rt en cp rm xA xL xH : Int32} {a1 a2 a3 a4 a5 a6 a7 a8 a9 a10 a11 a12 a13 a14 a15 a16 a17 a18 a19 : Nat → Int32} {n l r v k : Nat} (hn : n < 8) (hl : l < 8) (hr : r < 8) (hv : v < 4) (hb : ¬ nI v &&& 1 = 0)
    (h : ∀ t : lk_T, wX_pull_150 post (nI n) (nI l) (nI r) x5 k (nI (v + 1)) sp rt en cp rm (t.1) (t.2.1) (t.2.2) a1 a2 a3 a4 a5 a6 a7 a8 a9 a10 a11 a12 (upd a13 (n * 4 + v) t.1) (upd a14 (n * 4 + v) t.2.1) (upd a15 (n * 4 + v) t.2.2) a16 a17 a18 a19) : wX_pull_150 post (nI n) (nI l) (nI r) x5 (k + 1) (nI v) sp rt en cp rm xA xL xH a1 a2 a3 a4 a5 a6 a7 a8 a9 a10 a11 a12 a13 a14 a15 a16 a17 a18 a19 := by
  refine br_f (nI_ge (b := 4) hv (by decide)) (br_f hb ?_)
  unfold wX_pull_168
  refine br_t (by decide) ?_
  unfold wX_pull_180
  refine nm_r (lk_i4 r v) (br_t (by decide) ?_)
  exact lk_197 hn rfl (by omega) (lk_i4 l v) (by omega) (lk_i4 n v) (by omega) (fun t t1 t2 h1 h2 h3 => by rw [nI_1]; exact h t)
/-! the picture's pull, in four stores -/
def lk_p1 (q n l r : Nat) : Nat := lk_w q (32 + n) (lk_sat (lk_g q (32 + l)) (lk_g q (32 + r)) 1)
def lk_p2 (q n l r d : Nat) : Nat := lk_w q (56 + n) (lk_sat (lk_g q (56 + l)) (lk_g q (56 + r)) (if d = 0 then 1 else 0))
def lk_p3 (q n l r : Nat) : Nat := lk_w q (72 + n) (lk_c (lk_ce (lk_g q (72 + l)) (lk_g q (64 + n))) (lk_g q (72 + r)))
def lk_p4 (q n l r d : Nat) : Nat := lk_w q (80 + n) (lk_c (if d = 0 then lk_ce (lk_g q (80 + l)) (lk_g q (64 + n)) else lk_g q (80 + l)) (lk_g q (80 + r)))
def lk_pq (q n l r d : Nat) : Nat := lk_p4 (lk_p3 (lk_p2 (lk_p1 q n l r) n l r d) n l r) n l r d
def lk_pl (q n : Nat) : Nat := lk_pq q n (lk_g q (8 + n)) (lk_g q (16 + n)) (lk_g q (40 + n))
theorem lk_m0 {f s : Int32} {post : St2 → Prop} {x5 : Int32} {sp rt en cp rm xA xL xH : Int32} {a1 a2 a3 a4 a5 a6 a7 a8 a9 a10 a11 a12 a13 a14 a15 a16 a17 a18 a19 : Nat → Int32} {q n l r k : Nat} (hk : lk_ok f s) (h : lk_M f s q (sp, rt, en, cp, rm, xA, xL, xH, a1, a2, a3, a4, a5, a6, a7, a8, a9, a10, a11, a12, a13, a14, a15, a16, a17, a18, a19)) (hn : n < 8) (hl : l < 8) (hr : r < 8)
    (hh : ∀ u, lk_M f s (lk_p3 q n l r) u → lk_ap (wX_pull_150 post (nI n) (nI l) (nI r) x5 k 1) u) : wX_pull_150 post (nI n) (nI l) (nI r) x5 (k + 1) 0 sp rt en cp rm xA xL xH a1 a2 a3 a4 a5 a6 a7 a8 a9 a10 a11 a12 a13 a14 a15 a16 a17 a18 a19 := by
  have h' := h
  obtain ⟨h1, h2, h3, h4, h5, h6, h7, h8, h9, h10, h11, h12, h13, h14, h15, h16, h17⟩ := h'
  subst h4
  refine lk_itF (v := 0) hn hl hr (by omega) (by decide) (fun t t1 t2 e1 e2 e3 => ?_)
  refine hh (sp, rt, en, 20, rm, t.1, t.2.1, t.2.2, a1, a2, a3, a4, a5, a6, a7, a8, a9, a10, a11, a12, upd a13 (n * 4 + 0) t.1, upd a14 (n * 4 + 0) t.2.1, upd a15 (n * 4 + 0) t.2.2, a16, a17, a18, a19) ?_
  have E1 : lk_E f s (lk_g q (72 + l)) t1 := by
    rw [e1]
    exact lk_Ec (a := 0) hk (fun _ => rfl) (h15 l hl)
  have E2 : lk_E f s (lk_ce (lk_g q (72 + l)) (lk_g q (64 + n))) t2 := by
    rcases e2 with ⟨_, e⟩ | ⟨e, _⟩
    · rw [e]
      exact lk_Ee hk E1 (h14 n hn)
    · exact absurd (by decide) e
  have E3 := lk_Ec hk E2 (h15 r hr)
  rw [← e3] at E3
  refine lk_s_e0 ?_ hn (lk_c_lt (lk_ce_lt (lk_g_lt _ _)) (lk_g_lt _ _)) E3
  exact lk_s_fr h
theorem lk_m1 {f s : Int32} {post : St2 → Prop} {x5 : Int32} {sp rt en cp rm xA xL xH : Int32} {a1 a2 a3 a4 a5 a6 a7 a8 a9 a10 a11 a12 a13 a14 a15 a16 a17 a18 a19 : Nat → Int32} {q n l r k v : Nat} (h : lk_M f s q (sp, rt, en, cp, rm, xA, xL, xH, a1, a2, a3, a4, a5, a6, a7, a8, a9, a10, a11, a12, a13, a14, a15, a16, a17, a18, a19)) (hn : n < 8) (hl : l < 8) (hr : r < 8) (hv : v < 4) (hb : ¬ nI v &&& 1 = 0) (ho : v % 2 = 1)
    (hh : ∀ u, lk_M f s q u → lk_ap (wX_pull_150 post (nI n) (nI l) (nI r) x5 k (nI (v + 1))) u) : wX_pull_150 post (nI n) (nI l) (nI r) x5 (k + 1) (nI v) sp rt en cp rm xA xL xH a1 a2 a3 a4 a5 a6 a7 a8 a9 a10 a11 a12 a13 a14 a15 a16 a17 a18 a19 := by
  refine lk_itB hn hl hr hv hb (fun t => ?_)
  refine hh (sp, rt, en, cp, rm, t.1, t.2.1, t.2.2, a1, a2, a3, a4, a5, a6, a7, a8, a9, a10, a11, a12, upd a13 (n * 4 + v) t.1, upd a14 (n * 4 + v) t.2.1, upd a15 (n * 4 + v) t.2.2, a16, a17, a18, a19) ?_
  refine lk_s_eo ?_ (fun i => by omega)
  exact lk_s_fr h
theorem lk_m2 {f s : Int32} {post : St2 → Prop} {sp rt en cp rm xA xL xH : Int32} {a1 a2 a3 a4 a5 a6 a7 a8 a9 a10 a11 a12 a13 a14 a15 a16 a17 a18 a19 : Nat → Int32} {q n l r k d : Nat} (hk : lk_ok f s) (h : lk_M f s q (sp, rt, en, cp, rm, xA, xL, xH, a1, a2, a3, a4, a5, a6, a7, a8, a9, a10, a11, a12, a13, a14, a15, a16, a17, a18, a19)) (hn : n < 8) (hl : l < 8) (hr : r < 8) (hd : d < 8)
    (hh : ∀ u, lk_M f s (lk_p4 q n l r d) u → lk_ap (wX_pull_150 post (nI n) (nI l) (nI r) (nI d) k (nI 3)) u) : wX_pull_150 post (nI n) (nI l) (nI r) (nI d) (k + 1) (nI 2) sp rt en cp rm xA xL xH a1 a2 a3 a4 a5 a6 a7 a8 a9 a10 a11 a12 a13 a14 a15 a16 a17 a18 a19 := by
  have h' := h
  obtain ⟨h1, h2, h3, h4, h5, h6, h7, h8, h9, h10, h11, h12, h13, h14, h15, h16, h17⟩ := h'
  subst h4
  refine lk_itF (v := 2) hn hl hr (by omega) (by decide) (fun t t1 t2 e1 e2 e3 => ?_)
  refine hh (sp, rt, en, 20, rm, t.1, t.2.1, t.2.2, a1, a2, a3, a4, a5, a6, a7, a8, a9, a10, a11, a12, upd a13 (n * 4 + 2) t.1, upd a14 (n * 4 + 2) t.2.1, upd a15 (n * 4 + 2) t.2.2, a16, a17, a18, a19) ?_
  have E1 : lk_E f s (lk_g q (80 + l)) t1 := by
    rw [e1]
    exact lk_Ec (a := 0) hk (fun _ => rfl) (h16 l hl)
  have E2 : lk_E f s (if d = 0 then lk_ce (lk_g q (80 + l)) (lk_g q (64 + n)) else lk_g q (80 + l)) t2 := by
    rcases e2 with ⟨e, e'⟩ | ⟨_, e, e'⟩
    · have d0 : d = 0 := by
        rcases e with e | e
        · exact absurd e (by decide)
        · exact (nI_eq (by omega) (by omega)).mp e
      rw [if_pos d0, e']
      exact lk_Ee hk E1 (h14 n hn)
    · have d0 : ¬ d = 0 := fun z => e (by rw [z]; rfl)
      rw [if_neg d0, e']
      exact E1
  have E3 := lk_Ec hk E2 (h16 r hr)
  rw [← e3] at E3
  have B : (if d = 0 then lk_ce (lk_g q (80 + l)) (lk_g q (64 + n)) else lk_g q (80 + l)) < 8 := by
    split
    · exact lk_ce_lt (lk_g_lt _ _)
    · exact lk_g_lt _ _
  refine lk_s_e2 ?_ hn (lk_c_lt B (lk_g_lt _ _)) E3
  exact lk_s_fr h
theorem lk_pl5 {f s : Int32} {post : St2 → Prop} {sp rt en cp rm xA xL xH : Int32} {a1 a2 a3 a4 a5 a6 a7 a8 a9 a10 a11 a12 a13 a14 a15 a16 a17 a18 a19 : Nat → Int32} {q n l r d : Nat} (hk : lk_ok f s) (h : lk_M f s q (sp, rt, en, cp, rm, xA, xL, xH, a1, a2, a3, a4, a5, a6, a7, a8, a9, a10, a11, a12, a13, a14, a15, a16, a17, a18, a19)) (hn : n < 8) (hl : l < 8) (hr : r < 8) (hd : d < 8)
    (hp : ∀ u, lk_M f s (lk_p4 (lk_p3 q n l r) n l r d) u → post u) : wX_pull_150 post (nI n) (nI l) (nI r) (nI d) 5 0 sp rt en cp rm xA xL xH a1 a2 a3 a4 a5 a6 a7 a8 a9 a10 a11 a12 a13 a14 a15 a16 a17 a18 a19 := by
  refine lk_m0 (k := 4) hk h hn hl hr (fun u h => ?_)
  obtain ⟨sp, rt, en, cp, rm, xA, xL, xH, a1, a2, a3, a4, a5, a6, a7, a8, a9, a10, a11, a12, a13, a14, a15, a16, a17, a18, a19⟩ := u
  show wX_pull_150 post (nI n) (nI l) (nI r) (nI d) (3 + 1) (nI 1) sp rt en cp rm xA xL xH a1 a2 a3 a4 a5 a6 a7 a8 a9 a10 a11 a12 a13 a14 a15 a16 a17 a18 a19
  refine lk_m1 (k := 3) (v := 1) h hn hl hr (by omega) (by decide) (by omega) (fun u h => ?_)
  obtain ⟨sp, rt, en, cp, rm, xA, xL, xH, a1, a2, a3, a4, a5, a6, a7, a8, a9, a10, a11, a12, a13, a14, a15, a16, a17, a18, a19⟩ := u
  show wX_pull_150 post (nI n) (nI l) (nI r) (nI d) (2 + 1) (nI 2) sp rt en cp rm xA xL xH a1 a2 a3 a4 a5 a6 a7 a8 a9 a10 a11 a12 a13 a14 a15 a16 a17 a18 a19
  refine lk_m2 (k := 2) hk h hn hl hr hd (fun u h => ?_)
  obtain ⟨sp, rt, en, cp, rm, xA, xL, xH, a1, a2, a3, a4, a5, a6, a7, a8, a9, a10, a11, a12, a13, a14, a15, a16, a17, a18, a19⟩ := u
  show wX_pull_150 post (nI n) (nI l) (nI r) (nI d) (1 + 1) (nI 3) sp rt en cp rm xA xL xH a1 a2 a3 a4 a5 a6 a7 a8 a9 a10 a11 a12 a13 a14 a15 a16 a17 a18 a19
  refine lk_m1 (k := 1) (v := 3) h hn hl hr (by omega) (by decide) (by omega) (fun u h => ?_)
  obtain ⟨sp, rt, en, cp, rm, xA, xL, xH, a1, a2, a3, a4, a5, a6, a7, a8, a9, a10, a11, a12, a13, a14, a15, a16, a17, a18, a19⟩ := u
  show wX_pull_150 post (nI n) (nI l) (nI r) (nI d) (0 + 1) (nI 4) sp rt en cp rm xA xL xH a1 a2 a3 a4 a5 a6 a7 a8 a9 a10 a11 a12 a13 a14 a15 a16 a17 a18 a19
  exact br_t (by decide) (hp _ h)
theorem lk_92 {f s : Int32} {post : St2 → Prop} {x4 z0 z1 : Int32} {sp rt en cp rm xA xL xH : Int32} {a1 a2 a3 a4 a5 a6 a7 a8 a9 a10 a11 a12 a13 a14 a15 a16 a17 a18 a19 : Nat → Int32} {q n l r d : Nat} (hk : lk_ok f s) (h : lk_M f s q (sp, rt, en, cp, rm, xA, xL, xH, a1, a2, a3, a4, a5, a6, a7, a8, a9, upd a10 (nI n).toNatClampNeg (z1 + z0), a11, a12, a13, a14, a15, a16, a17, a18, a19)) (hn : n < 8) (hl : l < 8) (hr : r < 8) (hd : d < 8)
    (hp : ∀ u, lk_M f s (lk_p4 (lk_p3 q n l r) n l r d) u → post u) : wX_pull_92 post (nI n) (nI l) (nI r) x4 (nI d) z0 z1 (nI n) sp rt en cp rm xA xL xH a1 a2 a3 a4 a5 a6 a7 a8 a9 a10 a11 a12 a13 a14 a15 a16 a17 a18 a19 := by
  have I : vp_in (nI n) 43 := pk_in n 43 (by omega)
  have Il : vp_in (nI l) 43 := pk_in l 43 (by omega)
  have Ir : vp_in (nI r) 43 := pk_in r 43 (by omega)
  unfold wX_pull_92
  refine ⟨I, nm_e ⟨Il, Ir, I, nm_e ⟨Il, Ir, br_c (fun _ => ⟨I, nm_e ⟨5, lk_pl5 hk ?_ hn hl hr hd hp⟩⟩) (fun _ => ⟨I, nm_e ⟨5, lk_pl5 hk ?_ hn hl hr hd hp⟩⟩)⟩⟩⟩
  · exact lk_s_fr h
  · exact lk_s_fr h
theorem lk_33 {f s : Int32} {post : St2 → Prop} {z0 : Int32} {sp rt en cp rm xA xL xH : Int32} {a1 a2 a3 a4 a5 a6 a7 a8 a9 a10 a11 a12 a13 a14 a15 a16 a17 a18 a19 : Nat → Int32} {q n l r d : Nat} (hk : lk_ok f s) (h : lk_M f s q (sp, rt, en, cp, rm, xA, xL, xH, a1, a2, a3, a4, a5, a6, a7, a8, a9, a10, a11, a12, a13, a14, a15, a16, a17, a18, a19)) (hn : n < 8) (hl : l < 8) (hr : r < 8) (hd : d < 8) (hv : a7 n = nI d)
    (hp : ∀ u, lk_M f s (lk_pq q n l r d) u → post u) : wX_pull_33 post (nI n) (nI l) (nI r) z0 sp rt en cp rm xA xL xH a1 a2 a3 a4 a5 a6 a7 a8 a9 a10 a11 a12 a13 a14 a15 a16 a17 a18 a19 := by
  have I : vp_in (nI n) 43 := pk_in n 43 (by omega)
  have Il : vp_in (nI l) 43 := pk_in l 43 (by omega)
  have Ir : vp_in (nI r) 43 := pk_in r 43 (by omega)
  have c : (nI n).toNatClampNeg = n := nI_clamp (by omega)
  have cl : (nI l).toNatClampNeg = l := nI_clamp (by omega)
  have cr : (nI r).toNatClampNeg = r := nI_clamp (by omega)
  have h' := h
  obtain ⟨h1, h2, h3, h4, h5, h6, h7, h8, h9, h10, h11, h12, h13, h14, h15, h16, h17⟩ := h'
  have M1 : lk_M f s (lk_p1 q n l r) (sp, rt, en, cp, rm, xA, xL, xH, a1, a2, a3, upd a4 (nI n).toNatClampNeg (a4 (nI l).toNatClampNeg + a4 (nI r).toNatClampNeg + 1), a5, a6, a7, a8, a9, a10, a11, a12, a13, a14, a15, a16, a17, a18, a19) := by
    refine lk_s_ct h hn (lk_sat_lt _ _ _) (fun e => ?_)
    obtain ⟨e1, e2, e3⟩ := lk_sat_of e
    rw [e3, cl, cr, h9 l hl e1, h9 r hr e2, nI_add, nI_1]
  have M1' := M1
  obtain ⟨_, _, _, _, _, _, _, _, _, _, _, _, k13, _⟩ := M1'
  unfold wX_pull_33
  refine ⟨I, nm_r (e' := nI d) (by rw [c]; exact hv) ⟨Il, Ir, I, nm_e ⟨Il, Ir, br_c (fun e => lk_92 hk ?_ hn hl hr hd hp) (fun e => lk_92 hk ?_ hn hl hr hd hp)⟩⟩⟩
  · refine lk_s_lv M1 hn (lk_sat_lt _ _ _) (fun z => ?_)
    obtain ⟨e1, e2, e3⟩ := lk_sat_of z
    have d0 : d = 0 := (nI_eq (by omega) (by omega)).mp e
    rw [e3, if_pos d0, cl, cr, k13 l hl e1, k13 r hr e2, nI_add, nI_1]
  · refine lk_s_lv M1 hn (lk_sat_lt _ _ _) (fun z => ?_)
    obtain ⟨e1, e2, e3⟩ := lk_sat_of z
    have d0 : ¬ d = 0 := fun z => e (by rw [z]; rfl)
    rw [e3, if_neg d0, cl, cr, k13 l hl e1, k13 r hr e2, nI_add, Nat.add_zero]
    exact Int32.add_zero _
theorem lk_pull {f s : Int32} {post : St2 → Prop} {q n : Nat} {u : St2} (hk : lk_ok f s) (h : lk_M f s q u) (hn : n < 8) (hp : ∀ u', lk_M f s (lk_pl q n) u' → post u') : wpX_pull post u (nI n) := by
  obtain ⟨sp, rt, en, cp, rm, xA, xL, xH, a1, a2, a3, a4, a5, a6, a7, a8, a9, a10, a11, a12, a13, a14, a15, a16, a17, a18, a19⟩ := u
  have h' := h
  obtain ⟨h1, h2, h3, h4, h5, h6, h7, h8, h9, h10, h11, h12, h13, h14, h15, h16, h17⟩ := h'
  have I : vp_in (nI n) 43 := pk_in n 43 (by omega)
  have c : (nI n).toNatClampNeg = n := nI_clamp (by omega)
  unfold wpX_pull
  exact ⟨I, nm_r (e' := nI (lk_g q (8 + n))) (by rw [c]; exact h6 n hn) ⟨I, nm_r (e' := nI (lk_g q (16 + n))) (by rw [c]; exact h7 n hn) ⟨I, br_c (fun _ => ⟨I, lk_33 hk h hn (lk_g_lt _ _) (lk_g_lt _ _) (lk_g_lt _ _) (h10 n hn) hp⟩) (fun _ => lk_33 hk h hn (lk_g_lt _ _) (lk_g_lt _ _) (lk_g_lt _ _) (h10 n hn) hp)⟩⟩⟩
end
section
/-! setUp, paint, push, rotate -/
def lk_su (q n c : Nat) : Nat := lk_pl (lk_w (lk_w (lk_w (lk_w (lk_w (lk_w q (64 + n) c) (40 + n) 0) (8 + n) 0) (16 + n) 0) (24 + n) 0) (48 + n) 2) n
theorem lk_setUp {f s : Int32} {post : St2 → Prop} {q n c : Nat} {u : St2} {p1 p2 : Int32} (hk : lk_ok f s) (h : lk_M f s q u) (hn : n < 8) (hc : c < 8) (hN : lk_N f s c p1 p2) (hp : ∀ u', lk_M f s (lk_su q n c) u' → post u') : wpX_setUp post u (nI n) p1 p2 0 := by
  obtain ⟨sp, rt, en, cp, rm, xA, xL, xH, a1, a2, a3, a4, a5, a6, a7, a8, a9, a10, a11, a12, a13, a14, a15, a16, a17, a18, a19⟩ := u
  have I : vp_in (nI n) 43 := pk_in n 43 (by omega)
  unfold wpX_setUp
  refine ⟨I, nm_e ⟨I, nm_e ⟨I, nm_e ⟨I, nm_e ⟨I, nm_e ⟨I, nm_e ⟨I, nm_e ⟨I, nm_e (lk_pull hk (lk_s_vb (v := 2) (lk_s_tu (lk_s_up (v := 0) (lk_s_ri (v := 0) (lk_s_lf (v := 0) (lk_s_vd (v := 0) (lk_s_ky h hn hc hN) hn (by omega) (by rfl)) hn (by omega) (by rfl)) hn (by omega) (by rfl)) hn (by omega) (by rfl))) hn (by omega) (by rfl)) hn (fun u' h' => ?_))⟩⟩⟩⟩⟩⟩⟩⟩
  obtain ⟨sp, rt, en, cp, rm, xA, xL, xH, a1, a2, a3, a4, a5, a6, a7, a8, a9, a10, a11, a12, a13, a14, a15, a16, a17, a18, a19⟩ := u'
  exact hp _ h'
def lk_pa (q n d : Nat) : Nat := if n = 0 then q else if d = 0 then lk_w (lk_w (lk_w (lk_w q (40 + n) 0) (48 + n) 0) (56 + n) (lk_g q (32 + n))) (80 + n) (lk_g q (72 + n)) else lk_w (lk_w (lk_w (lk_w q (40 + n) 1) (48 + n) 1) (56 + n) 0) (80 + n) 0
theorem lk_104a {post : St2 → Prop} {J : Int32 → (Nat → Int32) → (Nat → Int32) → (Nat → Int32) → (Nat → Int32) → (Nat → Int32) → (Nat → Int32) → (Nat → Int32) → (Nat → Int32) → (Nat → Int32) → (Nat → Int32) → (Nat → Int32) → (Nat → Int32) → (Nat → Int32) → (Nat → Int32) → (Nat → Int32) → (Nat → Int32) → (Nat → Int32) → (Nat → Int32) → (Nat → Int32) → Prop} {x1 x3 z0 : Int32} {sp rt en cp rm xA xL xH : Int32} {a1 a2 a3 a4 a5 a6 a7 a8 a9 a10 a11 a12 a13 a14 a15 a16 a17 a18 a19 : Nat → Int32} {e e' : Nat} (he : e < 172) (he' : e' < 172) (hs : nI e - 2 = nI e') (h : J (x3 + 1) a1 a2 a3 a4 a5 a6 a7 a8 a9 a10 a11 a12 (upd a13 e z0) (upd a14 e (a14 e')) (upd a15 e (a15 e')) a16 a17 a18 a19) : wX_paint_104 post J x1 0 x3 (nI e) z0 (nI e) sp rt en cp rm xA xL xH a1 a2 a3 a4 a5 a6 a7 a8 a9 a10 a11 a12 a13 a14 a15 a16 a17 a18 a19 := by
  have I : vp_in (nI e) 172 := pk_in e 172 he
  have I' : vp_in (nI e') 172 := pk_in e' 172 he'
  have c : (nI e).toNatClampNeg = e := nI_clamp (by omega)
  have c' : (nI e').toNatClampNeg = e' := nI_clamp (by omega)
  unfold wX_paint_104
  rw [hs, c, c']
  refine ⟨I, nm_e (br_t rfl ⟨I', ?_⟩)⟩
  unfold wX_paint_128
  rw [hs, c, c']
  exact ⟨I, nm_e (br_t rfl ⟨I', I, nm_e (nm_e h)⟩)⟩
theorem lk_104b {post : St2 → Prop} {J : Int32 → (Nat → Int32) → (Nat → Int32) → (Nat → Int32) → (Nat → Int32) → (Nat → Int32) → (Nat → Int32) → (Nat → Int32) → (Nat → Int32) → (Nat → Int32) → (Nat → Int32) → (Nat → Int32) → (Nat → Int32) → (Nat → Int32) → (Nat → Int32) → (Nat → Int32) → (Nat → Int32) → (Nat → Int32) → (Nat → Int32) → (Nat → Int32) → Prop} {x1 x3 : Int32} {sp rt en cp rm xA xL xH : Int32} {a1 a2 a3 a4 a5 a6 a7 a8 a9 a10 a11 a12 a13 a14 a15 a16 a17 a18 a19 : Nat → Int32} {e : Nat} (he : e < 172) (h : J (x3 + 1) a1 a2 a3 a4 a5 a6 a7 a8 a9 a10 a11 a12 (upd a13 e 0) (upd a14 e 0) (upd a15 e cp) a16 a17 a18 a19) : wX_paint_104 post J x1 1 x3 (nI e) 0 (nI e) sp rt en cp rm xA xL xH a1 a2 a3 a4 a5 a6 a7 a8 a9 a10 a11 a12 a13 a14 a15 a16 a17 a18 a19 := by
  have I : vp_in (nI e) 172 := pk_in e 172 he
  have c : (nI e).toNatClampNeg = e := nI_clamp (by omega)
  unfold wX_paint_104
  rw [c]
  refine ⟨I, nm_e (br_f (by decide) ?_)⟩
  unfold wX_paint_128
  rw [c]
  exact ⟨I, nm_e (br_f (by decide) ⟨I, nm_e (nm_e h)⟩)⟩
theorem lk_69a {post : St2 → Prop} {sp rt en cp rm xA xL xH : Int32} {a1 a2 a3 a4 a5 a6 a7 a8 a9 a10 a11 a12 a13 a14 a15 a16 a17 a18 a19 : Nat → Int32} {n v w k : Nat} (hn : n < 8) (hw : w < 2) (hv : v = w + 2) (h : wX_paint_69 post (nI n) 0 sp rt en cp rm xA xL xH k (nI (v + 1)) a1 a2 a3 a4 a5 a6 a7 a8 a9 a10 a11 a12 (upd a13 (n * 4 + v) (a13 (n * 4 + w))) (upd a14 (n * 4 + v) (a14 (n * 4 + w))) (upd a15 (n * 4 + v) (a15 (n * 4 + w))) a16 a17 a18 a19) : wX_paint_69 post (nI n) 0 sp rt en cp rm xA xL xH (k + 1) (nI v) a1 a2 a3 a4 a5 a6 a7 a8 a9 a10 a11 a12 a13 a14 a15 a16 a17 a18 a19 := by
  have hs : nI (n * 4 + v) - 2 = nI (n * 4 + w) := by
    rw [show (2 : Int32) = nI 2 from rfl, pk_sub (by omega)]
    congr 1
    omega
  have I' : vp_in (nI (n * 4 + w)) 172 := pk_in (n * 4 + w) 172 (by omega)
  refine br_f (nI_ge (b := 4) (by omega) (by decide)) (nm_r (lk_i4 n v) (br_t rfl ?_))
  rw [hs, nI_clamp (show n * 4 + w < 2 ^ 31 by omega)]
  refine ⟨I', lk_104a (by omega) (by omega) hs ?_⟩
  rw [nI_1]
  exact h
theorem lk_69b {post : St2 → Prop} {sp rt en cp rm xA xL xH : Int32} {a1 a2 a3 a4 a5 a6 a7 a8 a9 a10 a11 a12 a13 a14 a15 a16 a17 a18 a19 : Nat → Int32} {n v k : Nat} (hn : n < 8) (hv : v < 4) (h : wX_paint_69 post (nI n) 1 sp rt en cp rm xA xL xH k (nI (v + 1)) a1 a2 a3 a4 a5 a6 a7 a8 a9 a10 a11 a12 (upd a13 (n * 4 + v) 0) (upd a14 (n * 4 + v) 0) (upd a15 (n * 4 + v) cp) a16 a17 a18 a19) : wX_paint_69 post (nI n) 1 sp rt en cp rm xA xL xH (k + 1) (nI v) a1 a2 a3 a4 a5 a6 a7 a8 a9 a10 a11 a12 a13 a14 a15 a16 a17 a18 a19 := by
  refine br_f (nI_ge (b := 4) (by omega) (by decide)) (nm_r (lk_i4 n v) (br_f (by decide) ?_))
  refine lk_104b (by omega) ?_
  rw [nI_1]
  exact h
theorem lk_paint0 {f s : Int32} {post : St2 → Prop} {q n : Nat} {u : St2} (h : lk_M f s q u) (hn : n < 8) (hp : ∀ u', lk_M f s (lk_pa q n 0) u' → post u') : wpX_paint post u (nI n) 0 := by
  obtain ⟨sp, rt, en, cp, rm, xA, xL, xH, a1, a2, a3, a4, a5, a6, a7, a8, a9, a10, a11, a12, a13, a14, a15, a16, a17, a18, a19⟩ := u
  have I : vp_in (nI n) 43 := pk_in n 43 (by omega)
  have c : (nI n).toNatClampNeg = n := nI_clamp (by omega)
  have h' := h
  obtain ⟨h1, h2, h3, h4, h5, h6, h7, h8, h9, h10, h11, h12, h13, h14, h15, h16, h17⟩ := h'
  unfold lk_pa at hp
  unfold wpX_paint
  refine pk_eq n 0 (fun e => ?_) (fun e => ⟨I, nm_e (br_t rfl ?_)⟩)
  · rw [if_pos e] at hp
    exact hp _ h
  rw [if_neg e, if_pos rfl] at hp
  unfold wX_paint_26
  refine ⟨I, nm_e (br_t rfl ⟨I, ?_⟩)⟩
  unfold wX_paint_46
  refine ⟨I, nm_e (br_t rfl ⟨I, I, nm_e ⟨3, ?_⟩⟩)⟩
  refine lk_69a (k := 2) (v := 2) (w := 0) hn (by omega) rfl (lk_69a (k := 1) (v := 3) (w := 1) hn (by omega) rfl (br_t (by decide) (hp _ ?_)))
  refine lk_s_eo (m := n * 4 + 3) ?_ (fun i => by omega)
  refine lk_s_e2 ?_ hn (lk_g_lt _ _) (h15 n hn)
  exact lk_s_fr (lk_s_lv (lk_s_vb (v := 0) (lk_s_vd (v := 0) h hn (by omega) (by rfl)) hn (by omega) (by rfl)) hn (lk_g_lt _ _) (fun z => by rw [c]; exact h9 n hn z))
theorem lk_paint1 {f s : Int32} {post : St2 → Prop} {q n : Nat} {u : St2} (h : lk_M f s q u) (hn : n < 8) (hp : ∀ u', lk_M f s (lk_pa q n 1) u' → post u') : wpX_paint post u (nI n) 1 := by
  obtain ⟨sp, rt, en, cp, rm, xA, xL, xH, a1, a2, a3, a4, a5, a6, a7, a8, a9, a10, a11, a12, a13, a14, a15, a16, a17, a18, a19⟩ := u
  have I : vp_in (nI n) 43 := pk_in n 43 (by omega)
  have c : (nI n).toNatClampNeg = n := nI_clamp (by omega)
  have h' := h
  obtain ⟨h1, h2, h3, h4, h5, h6, h7, h8, h9, h10, h11, h12, h13, h14, h15, h16, h17⟩ := h'
  subst h4
  unfold lk_pa at hp
  unfold wpX_paint
  refine pk_eq n 0 (fun e => ?_) (fun e => ⟨I, nm_e (br_f (by decide) ?_)⟩)
  · rw [if_pos e] at hp
    exact hp _ h
  rw [if_neg e, if_neg (by decide)] at hp
  unfold wX_paint_26
  refine ⟨I, nm_e (br_f (by decide) ?_)⟩
  unfold wX_paint_46
  refine ⟨I, nm_e (br_f (by decide) ⟨I, nm_e ⟨3, ?_⟩⟩)⟩
  refine lk_69b (k := 2) (v := 2) hn (by omega) (lk_69b (k := 1) (v := 3) hn (by omega) (br_t (by decide) (hp _ ?_)))
  refine lk_s_eo (m := n * 4 + 3) ?_ (fun i => by omega)
  refine lk_s_e2 ?_ hn (by omega) (fun _ => rfl)
  exact lk_s_fr (lk_s_lv (v := 0) (lk_s_vb (v := 1) (lk_s_vd (v := 1) h hn (by omega) (by rfl)) hn (by omega) (by rfl)) hn (by omega) (fun z => by rfl))
theorem lk_paint {f s : Int32} {post : St2 → Prop} {q n d : Nat} {u : St2} (h : lk_M f s q u) (hn : n < 8) (hd : d < 2) (hp : ∀ u', lk_M f s (lk_pa q n d) u' → post u') : wpX_paint post u (nI n) (nI d) := by
  rcases (show d = 0 ∨ d = 1 by omega) with e | e
  · subst e
    exact lk_paint0 h hn hp
  · subst e
    exact lk_paint1 h hn hp
def lk_pv (q n d : Nat) : Nat := lk_w (lk_pa q (lk_g q (16 + n)) d) (48 + n) 2
def lk_pu (q n : Nat) : Nat := if lk_g q (48 + n) = 2 then q else if lk_g q (48 + n) = 1 then lk_pv (lk_pa q (lk_g q (8 + n)) 1) n 1 else lk_pv (lk_pa q (lk_g q (8 + n)) 0) n 0
theorem lk_55 {f s : Int32} {post : St2 → Prop} {sp rt en cp rm xA xL xH : Int32} {a1 a2 a3 a4 a5 a6 a7 a8 a9 a10 a11 a12 a13 a14 a15 a16 a17 a18 a19 : Nat → Int32} {q n : Nat} (h : lk_M f s q (sp, rt, en, cp, rm, xA, xL, xH, a1, a2, a3, a4, a5, a6, a7, a8, a9, a10, a11, a12, a13, a14, a15, a16, a17, a18, a19)) (hn : n < 8) (hp : post (sp, rt, en, cp, rm, xA, xL, xH, a1, a2, a3, a4, a5, a6, a7, a8, a9, a10, a11, a12, a13, a14, a15, a16, a17, a18, a19)) : wX_push_55 post (nI n) sp rt en cp rm xA xL xH a1 a2 a3 a4 a5 a6 a7 a8 a9 a10 a11 a12 a13 a14 a15 a16 a17 a18 a19 := by
  have I : vp_in (nI n) 43 := pk_in n 43 (by omega)
  have c : (nI n).toNatClampNeg = n := nI_clamp (by omega)
  obtain ⟨h1, h2, h3, h4, h5, h6, h7, h8, h9, h10, h11, h12, h13, h14, h15, h16, h17⟩ := h
  unfold wX_push_55
  exact ⟨I, br_t (by rw [c]; exact h11 n hn) hp⟩
theorem lk_25 {f s : Int32} {post : St2 → Prop} {sp rt en cp rm xA xL xH : Int32} {a1 a2 a3 a4 a5 a6 a7 a8 a9 a10 a11 a12 a13 a14 a15 a16 a17 a18 a19 : Nat → Int32} {q n d : Nat} (h : lk_M f s q (sp, rt, en, cp, rm, xA, xL, xH, a1, a2, a3, a4, a5, a6, a7, a8, a9, a10, a11, a12, a13, a14, a15, a16, a17, a18, a19)) (hn : n < 8) (hd : d < 2) (hp : ∀ u, lk_M f s (lk_pv (lk_pa q (lk_g q (8 + n)) d) n d) u → post u) : wX_push_25 post (nI n) (nI d) sp rt en cp rm xA xL xH a1 a2 a3 a4 a5 a6 a7 a8 a9 a10 a11 a12 a13 a14 a15 a16 a17 a18 a19 := by
  have I : vp_in (nI n) 43 := pk_in n 43 (by omega)
  have c : (nI n).toNatClampNeg = n := nI_clamp (by omega)
  have h' := h
  obtain ⟨h1, h2, h3, h4, h5, h6, h7, h8, h9, h10, h11, h12, h13, h14, h15, h16, h17⟩ := h'
  have e1 : a1 (nI n).toNatClampNeg = nI (lk_g q (8 + n)) := by rw [c]; exact h6 n hn
  unfold wX_push_25
  refine ⟨I, ?_⟩
  rw [e1]
  refine lk_paint h (lk_g_lt _ _) hd (fun u k => ?_)
  obtain ⟨sp, rt, en, cp, rm, xA, xL, xH, a1, a2, a3, a4, a5, a6, a7, a8, a9, a10, a11, a12, a13, a14, a15, a16, a17, a18, a19⟩ := u
  have k' := k
  obtain ⟨h1, h2, h3, h4, h5, h6, h7, h8, h9, h10, h11, h12, h13, h14, h15, h16, h17⟩ := k'
  have e2 : a2 (nI n).toNatClampNeg = nI (lk_g (lk_pa q (lk_g q (8 + n)) d) (16 + n)) := by rw [c]; exact h7 n hn
  refine ⟨I, ?_⟩
  rw [e2]
  refine lk_paint k (lk_g_lt _ _) hd (fun u k => ?_)
  obtain ⟨sp, rt, en, cp, rm, xA, xL, xH, a1, a2, a3, a4, a5, a6, a7, a8, a9, a10, a11, a12, a13, a14, a15, a16, a17, a18, a19⟩ := u
  have k2 := lk_s_vb k hn (v := 2) (x := 2) (by omega) rfl
  exact ⟨I, nm_e (lk_55 k2 hn (hp _ k2))⟩
theorem lk_push {f s : Int32} {post : St2 → Prop} {q n : Nat} {u : St2} (h : lk_M f s q u) (hn : n < 8) (hp : ∀ u', lk_M f s (lk_pu q n) u' → post u') : wpX_push post u (nI n) := by
  obtain ⟨sp, rt, en, cp, rm, xA, xL, xH, a1, a2, a3, a4, a5, a6, a7, a8, a9, a10, a11, a12, a13, a14, a15, a16, a17, a18, a19⟩ := u
  have I : vp_in (nI n) 43 := pk_in n 43 (by omega)
  have c : (nI n).toNatClampNeg = n := nI_clamp (by omega)
  have h' := h
  obtain ⟨h1, h2, h3, h4, h5, h6, h7, h8, h9, h10, h11, h12, h13, h14, h15, h16, h17⟩ := h'
  have e9 : a9 (nI n).toNatClampNeg = nI (lk_g q (48 + n)) := by rw [c]; exact h12 n hn
  have b9 := lk_g_lt q (48 + n)
  unfold lk_pu at hp
  unfold wpX_push
  refine ⟨I, pk_eq (lk_g q (48 + n)) 2 (fun e => ?_) (fun e => ⟨I, pk_eq (lk_g q (48 + n)) 1 (fun e' => ?_) (fun e' => ?_) e9⟩) e9⟩
  · rw [if_pos e] at hp
    exact lk_55 h hn (hp _ h)
  · rw [if_neg e, if_pos e'] at hp
    exact lk_25 (d := 1) h hn (by omega) hp
  · rw [if_neg e, if_neg e'] at hp
    exact lk_25 (d := 0) h hn (by omega) hp
/-! rotate -/
def lk_r1 (q n p : Nat) : Nat := lk_pl (lk_pl q p) n
def lk_r8 (q n p g : Nat) : Nat := if g = 0 then lk_r1 q n p else if lk_g q (8 + g) = p then lk_r1 (lk_w q (8 + g) n) n p else lk_r1 (lk_w q (16 + g) n) n p
def lk_r7 (q n p g : Nat) : Nat := lk_r8 (lk_w (lk_w q (24 + p) n) (24 + n) g) n p g
def lk_r6 (q n p g i : Nat) : Nat := if i = 0 then lk_r7 q n p g else lk_r7 (lk_w q (24 + i) p) n p g
def lk_r5 (q n p g : Nat) : Nat := if lk_g q (8 + p) = n then lk_r6 (lk_w (lk_w q (8 + p) (lk_g q (16 + n))) (16 + n) p) n p g (lk_g q (16 + n)) else lk_r6 (lk_w (lk_w q (16 + p) (lk_g q (8 + n))) (8 + n) p) n p g (lk_g q (8 + n))
def lk_rot (q n : Nat) : Nat := lk_r5 q n (lk_g q (24 + n)) (lk_g q (24 + lk_g q (24 + n)))
theorem lk_131 {f s : Int32} {post : St2 → Prop} {sp rt en cp rm xA xL xH : Int32} {a1 a2 a3 a4 a5 a6 a7 a8 a9 a10 a11 a12 a13 a14 a15 a16 a17 a18 a19 : Nat → Int32} {q n p : Nat} (hk : lk_ok f s) (h : lk_M f s q (sp, rt, en, cp, rm, xA, xL, xH, a1, a2, a3, a4, a5, a6, a7, a8, a9, a10, a11, a12, a13, a14, a15, a16, a17, a18, a19)) (hn : n < 8) (hp : p < 8) (hh : ∀ u, lk_M f s (lk_r1 q n p) u → post u) : wX_rotate_131 post (nI n) (nI p) sp rt en cp rm xA xL xH a1 a2 a3 a4 a5 a6 a7 a8 a9 a10 a11 a12 a13 a14 a15 a16 a17 a18 a19 := by
  unfold wX_rotate_131
  refine lk_pull hk h hp (fun u k => ?_)
  obtain ⟨sp, rt, en, cp, rm, xA, xL, xH, a1, a2, a3, a4, a5, a6, a7, a8, a9, a10, a11, a12, a13, a14, a15, a16, a17, a18, a19⟩ := u
  refine lk_pull hk k hn (fun u k => ?_)
  obtain ⟨sp, rt, en, cp, rm, xA, xL, xH, a1, a2, a3, a4, a5, a6, a7, a8, a9, a10, a11, a12, a13, a14, a15, a16, a17, a18, a19⟩ := u
  exact hh _ k
theorem lk_86 {f s : Int32} {post : St2 → Prop} {sp rt en cp rm xA xL xH : Int32} {a1 a2 a3 a4 a5 a6 a7 a8 a9 a10 a11 a12 a13 a14 a15 a16 a17 a18 a19 : Nat → Int32} {q n p g : Nat} (hk : lk_ok f s) (h : lk_M f s q (sp, rt, en, cp, rm, xA, xL, xH, a1, a2, a3, a4, a5, a6, a7, a8, a9, a10, a11, a12, a13, a14, a15, a16, a17, a18, a19)) (hn : n < 8) (hp : p < 8) (hg : g < 8) (hh : ∀ u, lk_M f s (lk_r7 q n p g) u → post u) : wX_rotate_86 post (nI n) (nI p) (nI g) sp rt en cp rm xA xL xH a1 a2 a3 a4 a5 a6 a7 a8 a9 a10 a11 a12 a13 a14 a15 a16 a17 a18 a19 := by
  have In : vp_in (nI n) 43 := pk_in n 43 (by omega)
  have Ip : vp_in (nI p) 43 := pk_in p 43 (by omega)
  have Ig : vp_in (nI g) 43 := pk_in g 43 (by omega)
  have cg : (nI g).toNatClampNeg = g := nI_clamp (by omega)
  have k := lk_s_up (lk_s_up h hp hn (x := nI n) rfl) hn hg (x := nI g) rfl
  have k' := k
  obtain ⟨h1, h2, h3, h4, h5, h6, h7, h8, h9, h10, h11, h12, h13, h14, h15, h16, h17⟩ := k'
  unfold lk_r7 lk_r8 at hh
  unfold wX_rotate_86
  refine ⟨Ip, nm_e ⟨In, nm_e (pk_eq g 0 (fun e => ?_) (fun e => ⟨Ig, pk_eq _ p (fun e' => ⟨Ig, nm_e ?_⟩) (fun e' => ⟨Ig, nm_e ?_⟩) (show a1 (nI g).toNatClampNeg = nI _ by rw [cg]; exact h6 g hg) rfl (Nat.lt_trans (lk_g_lt _ _) (by omega)) (by omega)⟩))⟩⟩
  · rw [if_pos e] at hh
    exact lk_131 hk k hn hp hh
  · rw [if_neg e, if_pos e'] at hh
    exact lk_131 hk (lk_s_lf k hg hn rfl) hn hp hh
  · rw [if_neg e, if_neg e'] at hh
    exact lk_131 hk (lk_s_ri k hg hn rfl) hn hp hh
theorem lk_73 {f s : Int32} {post : St2 → Prop} {sp rt en cp rm xA xL xH : Int32} {a1 a2 a3 a4 a5 a6 a7 a8 a9 a10 a11 a12 a13 a14 a15 a16 a17 a18 a19 : Nat → Int32} {q n p g i : Nat} (hk : lk_ok f s) (h : lk_M f s q (sp, rt, en, cp, rm, xA, xL, xH, a1, a2, a3, a4, a5, a6, a7, a8, a9, a10, a11, a12, a13, a14, a15, a16, a17, a18, a19)) (hn : n < 8) (hp : p < 8) (hg : g < 8) (hi : i < 8) (hh : ∀ u, lk_M f s (lk_r6 q n p g i) u → post u) : wX_rotate_73 post (nI n) (nI p) (nI g) (nI i) sp rt en cp rm xA xL xH a1 a2 a3 a4 a5 a6 a7 a8 a9 a10 a11 a12 a13 a14 a15 a16 a17 a18 a19 := by
  have Ii : vp_in (nI i) 43 := pk_in i 43 (by omega)
  unfold lk_r6 at hh
  unfold wX_rotate_73
  refine pk_eq i 0 (fun e => ?_) (fun e => ⟨Ii, nm_e ?_⟩)
  · rw [if_pos e] at hh
    exact lk_86 hk h hn hp hg hh
  · rw [if_neg e] at hh
    exact lk_86 hk (lk_s_up h hi hp rfl) hn hp hg hh
theorem lk_rotate {f s : Int32} {post : St2 → Prop} {q n : Nat} {u : St2} (hk : lk_ok f s) (h : lk_M f s q u) (hn : n < 8) (hh : ∀ u', lk_M f s (lk_rot q n) u' → post u') : wpX_rotate post u (nI n) := by
  obtain ⟨sp, rt, en, cp, rm, xA, xL, xH, a1, a2, a3, a4, a5, a6, a7, a8, a9, a10, a11, a12, a13, a14, a15, a16, a17, a18, a19⟩ := u
  have h' := h
  obtain ⟨h1, h2, h3, h4, h5, h6, h7, h8, h9, h10, h11, h12, h13, h14, h15, h16, h17⟩ := h'
  have In : vp_in (nI n) 43 := pk_in n 43 (by omega)
  have cn : (nI n).toNatClampNeg = n := nI_clamp (by omega)
  have ep : a3 (nI n).toNatClampNeg = nI (lk_g q (24 + n)) := by rw [cn]; exact h8 n hn
  unfold lk_rot at hh
  have hp := lk_g_lt q (24 + n)
  unfold wpX_rotate
  refine ⟨In, nm_r ep ?_⟩
  revert hh hp
  generalize lk_g q (24 + n) = p
  intro hh hp
  have Ip : vp_in (nI p) 43 := pk_in p 43 (by omega)
  have cp' : (nI p).toNatClampNeg = p := nI_clamp (by omega)
  have eg : a3 (nI p).toNatClampNeg = nI (lk_g q (24 + p)) := by rw [cp']; exact h8 p hp
  have hg := lk_g_lt q (24 + p)
  refine ⟨Ip, nm_r eg ⟨Ip, ?_⟩⟩
  have el : a1 (nI p).toNatClampNeg = nI (lk_g q (8 + p)) := by rw [cp']; exact h6 p hp
  have hl := lk_g_lt q (8 + p)
  unfold lk_r5 at hh
  refine pk_eq (lk_g q (8 + p)) n (fun e => ?_) (fun e => ?_) el
  · rw [if_pos e] at hh
    have e2 : a2 (nI n).toNatClampNeg = nI (lk_g q (16 + n)) := by rw [cn]; exact h7 n hn
    refine ⟨In, nm_r e2 ⟨Ip, nm_e ⟨In, nm_e ?_⟩⟩⟩
    exact lk_73 hk (lk_s_ri (lk_s_lf h hp (lk_g_lt _ _) rfl) hn hp rfl) hn hp hg (lk_g_lt _ _) hh
  · rw [if_neg e] at hh
    have e2 : a1 (nI n).toNatClampNeg = nI (lk_g q (8 + n)) := by rw [cn]; exact h6 n hn
    refine ⟨In, nm_r e2 ⟨Ip, nm_e ⟨In, nm_e ?_⟩⟩⟩
    exact lk_73 hk (lk_s_lf (lk_s_ri h hp (lk_g_lt _ _) rfl) hn hp rfl) hn hp hg (lk_g_lt _ _) hh
end
section
/-! seek, lift, isolate, hang, place -/
def lk_sk : Nat → Nat → Nat → Nat → Option (Nat × Nat)
  | 0, _, _, _ => none
  | k + 1, q, n, rest => let q1 := lk_pu q n; let b := lk_g q1 (32 + lk_g q1 (8 + n)); if b = 7 then none else if rest = b then some (n, q1) else if b ≤ rest then lk_sk k q1 (lk_g q1 (16 + n)) (rest - b - 1) else lk_sk k q1 (lk_g q1 (8 + n)) rest
theorem lk_seekL {f s : Int32} {post : Int32 → St2 → Prop} {b q' : Nat} (hp : ∀ u', b < 8 → lk_M f s q' u' → post (nI b) u') : ∀ (k i q n rest : Nat) (u : St2), i + k ≤ 43 → n < 8 → rest < 100 → lk_M f s q u → lk_sk k q n rest = some (b, q') → lk_ap (wX_seek_10 post k (nI n) (nI rest) (nI i)) u := by
  intro k
  induction k with
  | zero =>
    intro i q n rest u _ _ _ _ hq
    exact absurd hq (by unfold lk_sk; exact fun z => nomatch z)
  | succ k ih =>
    intro i q n rest u hi hn hrest h hq
    obtain ⟨sp, rt, en, cp, rm, xA, xL, xH, a1, a2, a3, a4, a5, a6, a7, a8, a9, a10, a11, a12, a13, a14, a15, a16, a17, a18, a19⟩ := u
    have In : vp_in (nI n) 43 := pk_in n 43 (by omega)
    have cn : (nI n).toNatClampNeg = n := nI_clamp (by omega)
    refine br_f (nI_ge (b := 43) (by omega) (by decide)) (lk_push h hn (fun u1 hm => ?_))
    obtain ⟨sp, rt, en, cp, rm, xA, xL, xH, a1, a2, a3, a4, a5, a6, a7, a8, a9, a10, a11, a12, a13, a14, a15, a16, a17, a18, a19⟩ := u1
    have hq2 : (if lk_g (lk_pu q n) (32 + lk_g (lk_pu q n) (8 + n)) = 7 then none else if rest = lk_g (lk_pu q n) (32 + lk_g (lk_pu q n) (8 + n)) then some (n, lk_pu q n) else if lk_g (lk_pu q n) (32 + lk_g (lk_pu q n) (8 + n)) ≤ rest then lk_sk k (lk_pu q n) (lk_g (lk_pu q n) (16 + n)) (rest - lk_g (lk_pu q n) (32 + lk_g (lk_pu q n) (8 + n)) - 1) else lk_sk k (lk_pu q n) (lk_g (lk_pu q n) (8 + n)) rest) = some (b, q') := hq
    clear hq h
    revert hq2 hm
    generalize lk_pu q n = q1
    intro hm hq
    have hm' := hm
    obtain ⟨h1, h2, h3, h4, h5, h6, h7, h8, h9, h10, h11, h12, h13, h14, h15, h16, h17⟩ := hm'
    have hl := lk_g_lt q1 (8 + n)
    have hr := lk_g_lt q1 (16 + n)
    have e1 : a1 (nI n).toNatClampNeg = nI (lk_g q1 (8 + n)) := by rw [cn]; exact h6 n hn
    have e2 : a2 (nI n).toNatClampNeg = nI (lk_g q1 (16 + n)) := by rw [cn]; exact h7 n hn
    have cl : (nI (lk_g q1 (8 + n))).toNatClampNeg = lk_g q1 (8 + n) := nI_clamp (by omega)
    have hb := lk_g_lt q1 (32 + lk_g q1 (8 + n))
    by_cases b7 : lk_g q1 (32 + lk_g q1 (8 + n)) = 7
    · rw [if_pos b7] at hq
      exact absurd hq (fun z => nomatch z)
    rw [if_neg b7] at hq
    have eb : a4 (a1 (nI n).toNatClampNeg).toNatClampNeg = nI (lk_g q1 (32 + lk_g q1 (8 + n))) := by rw [e1, cl]; exact h9 _ hl (by omega)
    refine ⟨In, pk_in _ 43 (by omega) e1, nm_r eb ?_⟩
    revert hq hb
    generalize lk_g q1 (32 + lk_g q1 (8 + n)) = b0
    intro hq hb
    refine pk_eq rest b0 (fun e => ?_) (fun e => ?_)
    · rw [if_pos e] at hq
      have e' : (n, q1) = (b, q') := Option.some.inj hq
      have en' : n = b := congrArg Prod.fst e'
      have eq' : q1 = q' := congrArg Prod.snd e'
      rw [eq'] at hm
      rw [en']
      exact hp _ (by omega) hm
    · rw [if_neg e] at hq
      refine pk_le b0 rest (fun le => ?_) (fun lt => ?_)
      · rw [if_pos le] at hq
        have er : nI rest - nI b0 - 1 = nI (rest - b0 - 1) := by
          rw [pk_sub le, show (1 : Int32) = nI 1 from rfl, pk_sub (by omega)]
        exact nm_r er ⟨In, nm_r e2 (nm_r (nI_1 i) (ih (i + 1) q1 (lk_g q1 (16 + n)) (rest - b0 - 1) (sp, rt, en, cp, rm, xA, xL, xH, a1, a2, a3, a4, a5, a6, a7, a8, a9, a10, a11, a12, a13, a14, a15, a16, a17, a18, a19) (by omega) hr (by omega) hm hq))⟩
      · rw [if_neg (by omega)] at hq
        exact ⟨In, nm_r e1 (nm_r (nI_1 i) (ih (i + 1) q1 (lk_g q1 (8 + n)) rest (sp, rt, en, cp, rm, xA, xL, xH, a1, a2, a3, a4, a5, a6, a7, a8, a9, a10, a11, a12, a13, a14, a15, a16, a17, a18, a19) (by omega) hl (by omega) hm hq))⟩
theorem lk_seek {f s : Int32} {post : Int32 → St2 → Prop} {q b q' rest : Nat} {u : St2} (h : lk_M f s q u) (hr : rest < 100) (hq : lk_sk 9 q (lk_g q 1) rest = some (b, q')) (hp : ∀ u', b < 8 → lk_M f s q' u' → post (nI b) u') : wpX_seek post u (nI rest) := by
  obtain ⟨sp, rt, en, cp, rm, xA, xL, xH, a1, a2, a3, a4, a5, a6, a7, a8, a9, a10, a11, a12, a13, a14, a15, a16, a17, a18, a19⟩ := u
  have h' := h
  obtain ⟨h1, h2, h3, h4, h5, h6, h7, h8, h9, h10, h11, h12, h13, h14, h15, h16, h17⟩ := h'
  subst h2
  unfold wpX_seek
  exact ⟨9, lk_seekL hp 9 0 q (lk_g q 1) rest _ (by omega) (lk_g_lt _ _) hr h hq⟩
def lk_l2 (q n p g top : Nat) : Nat := if g = top then q else if lk_g q (8 + g) = p then (if lk_g q (8 + p) = n then lk_rot q p else lk_rot q n) else (if lk_g q (8 + p) = n then lk_rot q n else lk_rot q p)
def lk_lt (n top : Nat) : Nat → Nat → Option Nat
  | 0, _ => none
  | k + 1, q => if lk_g q (24 + n) = top then some (if top = 0 then lk_w q 1 n else q) else lk_lt n top k (lk_rot (lk_l2 q n (lk_g q (24 + n)) (lk_g q (24 + lk_g q (24 + n))) top) n)
theorem lk_98 {f s : Int32} {post : St2 → Prop} {J : Int32 → Int32 → Int32 → Int32 → Int32 → Int32 → Int32 → Int32 → Int32 → (Nat → Int32) → (Nat → Int32) → (Nat → Int32) → (Nat → Int32) → (Nat → Int32) → (Nat → Int32) → (Nat → Int32) → (Nat → Int32) → (Nat → Int32) → (Nat → Int32) → (Nat → Int32) → (Nat → Int32) → (Nat → Int32) → (Nat → Int32) → (Nat → Int32) → (Nat → Int32) → (Nat → Int32) → (Nat → Int32) → (Nat → Int32) → Prop} {x2 : Int32} {sp rt en cp rm xA xL xH : Int32} {a1 a2 a3 a4 a5 a6 a7 a8 a9 a10 a11 a12 a13 a14 a15 a16 a17 a18 a19 : Nat → Int32} {q n i : Nat} (hk : lk_ok f s) (h : lk_M f s q (sp, rt, en, cp, rm, xA, xL, xH, a1, a2, a3, a4, a5, a6, a7, a8, a9, a10, a11, a12, a13, a14, a15, a16, a17, a18, a19)) (hn : n < 8) (hh : ∀ u, lk_M f s (lk_rot q n) u → lk_ap (J (nI (i + 1))) u) : wX_lift_98 post J (nI n) x2 (nI i) sp rt en cp rm xA xL xH a1 a2 a3 a4 a5 a6 a7 a8 a9 a10 a11 a12 a13 a14 a15 a16 a17 a18 a19 := by
  unfold wX_lift_98
  refine lk_rotate hk h hn (fun u k => ?_)
  have t := hh u k
  obtain ⟨sp, rt, en, cp, rm, xA, xL, xH, a1, a2, a3, a4, a5, a6, a7, a8, a9, a10, a11, a12, a13, a14, a15, a16, a17, a18, a19⟩ := u
  exact nm_r (nI_1 i) t
theorem lk_95 {f s : Int32} {post : St2 → Prop} {J : Int32 → Int32 → Int32 → Int32 → Int32 → Int32 → Int32 → Int32 → Int32 → (Nat → Int32) → (Nat → Int32) → (Nat → Int32) → (Nat → Int32) → (Nat → Int32) → (Nat → Int32) → (Nat → Int32) → (Nat → Int32) → (Nat → Int32) → (Nat → Int32) → (Nat → Int32) → (Nat → Int32) → (Nat → Int32) → (Nat → Int32) → (Nat → Int32) → (Nat → Int32) → (Nat → Int32) → (Nat → Int32) → (Nat → Int32) → Prop} {x2 : Int32} {sp rt en cp rm xA xL xH : Int32} {a1 a2 a3 a4 a5 a6 a7 a8 a9 a10 a11 a12 a13 a14 a15 a16 a17 a18 a19 : Nat → Int32} {q n m i : Nat} (hk : lk_ok f s) (h : lk_M f s q (sp, rt, en, cp, rm, xA, xL, xH, a1, a2, a3, a4, a5, a6, a7, a8, a9, a10, a11, a12, a13, a14, a15, a16, a17, a18, a19)) (hn : n < 8) (hm : m < 8) (hh : ∀ u, lk_M f s (lk_rot (lk_rot q m) n) u → lk_ap (J (nI (i + 1))) u) : wX_lift_95 post J (nI n) x2 (nI i) (nI m) sp rt en cp rm xA xL xH a1 a2 a3 a4 a5 a6 a7 a8 a9 a10 a11 a12 a13 a14 a15 a16 a17 a18 a19 := by
  unfold wX_lift_95
  refine lk_rotate hk h hm (fun u k => ?_)
  obtain ⟨sp, rt, en, cp, rm, xA, xL, xH, a1, a2, a3, a4, a5, a6, a7, a8, a9, a10, a11, a12, a13, a14, a15, a16, a17, a18, a19⟩ := u
  exact lk_98 hk k hn hh
theorem lk_57 {f s : Int32} {post : St2 → Prop} {J : Int32 → Int32 → Int32 → Int32 → Int32 → Int32 → Int32 → Int32 → Int32 → (Nat → Int32) → (Nat → Int32) → (Nat → Int32) → (Nat → Int32) → (Nat → Int32) → (Nat → Int32) → (Nat → Int32) → (Nat → Int32) → (Nat → Int32) → (Nat → Int32) → (Nat → Int32) → (Nat → Int32) → (Nat → Int32) → (Nat → Int32) → (Nat → Int32) → (Nat → Int32) → (Nat → Int32) → (Nat → Int32) → (Nat → Int32) → Prop} {x2 : Int32} {sp rt en cp rm xA xL xH : Int32} {a1 a2 a3 a4 a5 a6 a7 a8 a9 a10 a11 a12 a13 a14 a15 a16 a17 a18 a19 : Nat → Int32} {q n p i z : Nat} (hk : lk_ok f s) (h : lk_M f s q (sp, rt, en, cp, rm, xA, xL, xH, a1, a2, a3, a4, a5, a6, a7, a8, a9, a10, a11, a12, a13, a14, a15, a16, a17, a18, a19)) (hn : n < 8) (hp : p < 8) (hz : z < 2) (hh : ∀ u, lk_M f s (lk_rot (if z = 1 then (if lk_g q (8 + p) = n then lk_rot q p else lk_rot q n) else (if lk_g q (8 + p) = n then lk_rot q n else lk_rot q p)) n) u → lk_ap (J (nI (i + 1))) u) : wX_lift_57 post J (nI n) x2 (nI i) (nI p) (nI z) sp rt en cp rm xA xL xH a1 a2 a3 a4 a5 a6 a7 a8 a9 a10 a11 a12 a13 a14 a15 a16 a17 a18 a19 := by
  have Ip : vp_in (nI p) 43 := pk_in p 43 (by omega)
  have cp' : (nI p).toNatClampNeg = p := nI_clamp (by omega)
  have h' := h
  obtain ⟨h1, h2, h3, h4, h5, h6, h7, h8, h9, h10, h11, h12, h13, h14, h15, h16, h17⟩ := h'
  have el : a1 (nI p).toNatClampNeg = nI (lk_g q (8 + p)) := by rw [cp']; exact h6 p hp
  have hl := lk_g_lt q (8 + p)
  unfold wX_lift_57
  refine ⟨Ip, pk_eq (lk_g q (8 + p)) n (fun e => ?_) (fun e => ?_) el⟩
  · unfold wX_lift_73
    refine pk_eq z 1 (fun e2 => ?_) (fun e2 => ?_)
    · rw [if_pos e2, if_pos e] at hh
      unfold wX_lift_81
      exact br_f (by decide) (lk_95 hk h hn hp hh)
    · rw [if_neg e2, if_pos e] at hh
      unfold wX_lift_81
      exact br_t (by decide) (lk_95 hk h hn hn hh)
  · unfold wX_lift_73
    refine pk_eq z 0 (fun e2 => ?_) (fun e2 => ?_)
    · rw [if_neg (by omega), if_neg e] at hh
      unfold wX_lift_81
      exact br_f (by decide) (lk_95 hk h hn hp hh)
    · rw [if_pos (by omega), if_neg e] at hh
      unfold wX_lift_81
      exact br_t (by decide) (lk_95 hk h hn hn hh)
theorem lk_109 {f s : Int32} {post : St2 → Prop} {sp rt en cp rm xA xL xH : Int32} {a1 a2 a3 a4 a5 a6 a7 a8 a9 a10 a11 a12 a13 a14 a15 a16 a17 a18 a19 : Nat → Int32} {q n top : Nat} (h : lk_M f s q (sp, rt, en, cp, rm, xA, xL, xH, a1, a2, a3, a4, a5, a6, a7, a8, a9, a10, a11, a12, a13, a14, a15, a16, a17, a18, a19)) (hn : n < 8) (ht : top < 8) (hh : ∀ u, lk_M f s (if top = 0 then lk_w q 1 n else q) u → post u) : wX_lift_109 post (nI n) (nI top) sp rt en cp rm xA xL xH a1 a2 a3 a4 a5 a6 a7 a8 a9 a10 a11 a12 a13 a14 a15 a16 a17 a18 a19 := by
  unfold wX_lift_109
  refine pk_eq top 0 (fun e => ?_) (fun e => ?_)
  · rw [if_pos e] at hh
    exact hh _ (lk_s_rt h hn rfl)
  · rw [if_neg e] at hh
    exact hh _ h
theorem lk_liftL {f s : Int32} {post : St2 → Prop} {n top q' : Nat} (hk : lk_ok f s) (hn : n < 8) (ht : top < 8) (hp : ∀ u', lk_M f s q' u' → post u') : ∀ (k i q : Nat) (u : St2), i + k ≤ 43 → lk_M f s q u → lk_lt n top k q = some q' → lk_ap (wX_lift_2 post (nI n) (nI top) k (nI i)) u := by
  have In : vp_in (nI n) 43 := pk_in n 43 (by omega)
  have cn : (nI n).toNatClampNeg = n := nI_clamp (by omega)
  intro k
  induction k with
  | zero =>
    intro i q u _ _ hq
    exact absurd hq (by unfold lk_lt; exact fun z => nomatch z)
  | succ k ih =>
    intro i q u hi h hq
    obtain ⟨sp, rt, en, cp, rm, xA, xL, xH, a1, a2, a3, a4, a5, a6, a7, a8, a9, a10, a11, a12, a13, a14, a15, a16, a17, a18, a19⟩ := u
    have h' := h
    obtain ⟨h1, h2, h3, h4, h5, h6, h7, h8, h9, h10, h11, h12, h13, h14, h15, h16, h17⟩ := h'
    unfold lk_lt at hq
    have ep : a3 (nI n).toNatClampNeg = nI (lk_g q (24 + n)) := by rw [cn]; exact h8 n hn
    have hpp := lk_g_lt q (24 + n)
    refine br_f (nI_ge (b := 43) (by omega) (by decide)) ⟨In, nm_r ep ?_⟩
    revert hq hpp
    generalize lk_g q (24 + n) = p
    intro hq hpp
    have Ip : vp_in (nI p) 43 := pk_in p 43 (by omega)
    have cp' : (nI p).toNatClampNeg = p := nI_clamp (by omega)
    refine pk_eq p top (fun e => ?_) (fun e => ⟨Ip, ?_⟩)
    · rw [if_pos e] at hq
      have e' := Option.some.inj hq
      exact lk_109 h hn ht (fun u k => hp u (by rw [← e']; exact k))
    · rw [if_neg e] at hq
      have eg : a3 (nI p).toNatClampNeg = nI (lk_g q (24 + p)) := by rw [cp']; exact h8 p hpp
      have hg := lk_g_lt q (24 + p)
      refine nm_r eg ?_
      revert hq hg
      generalize lk_g q (24 + p) = g
      intro hq hg
      have Ig : vp_in (nI g) 43 := pk_in g 43 (by omega)
      have cg : (nI g).toNatClampNeg = g := nI_clamp (by omega)
      have el : a1 (nI g).toNatClampNeg = nI (lk_g q (8 + g)) := by rw [cg]; exact h6 g hg
      have hl := lk_g_lt q (8 + g)
      unfold lk_l2 at hq
      refine pk_eq g top (fun e2 => ?_) (fun e2 => ⟨Ig, pk_eq (lk_g q (8 + g)) p (fun e3 => ?_) (fun e3 => ?_) el⟩)
      · rw [if_pos e2] at hq
        exact lk_98 hk h hn (fun u k => ih (i + 1) _ u (by omega) k hq)
      · rw [if_neg e2, if_pos e3] at hq
        refine lk_57 (z := 1) hk h hn hpp (by omega) (fun u k => ih (i + 1) _ u (by omega) k ?_)
        exact hq
      · rw [if_neg e2, if_neg e3] at hq
        refine lk_57 (z := 0) hk h hn hpp (by omega) (fun u k => ih (i + 1) _ u (by omega) k ?_)
        exact hq
theorem lk_lift {f s : Int32} {post : St2 → Prop} {q n top q' : Nat} {u : St2} (hk : lk_ok f s) (h : lk_M f s q u) (hn : n < 8) (ht : top < 8) (hq : lk_lt n top 9 q = some q') (hp : ∀ u', lk_M f s q' u' → post u') : wpX_lift post u (nI n) (nI top) := by
  obtain ⟨sp, rt, en, cp, rm, xA, xL, xH, a1, a2, a3, a4, a5, a6, a7, a8, a9, a10, a11, a12, a13, a14, a15, a16, a17, a18, a19⟩ := u
  unfold wpX_lift
  exact ⟨9, lk_liftL hk hn ht hp 9 0 q _ (by omega) h hq⟩
def lk_iso (q x y : Nat) : Option (Nat × Nat) :=
  match lk_sk 9 q (lk_g q 1) x with
  | none => none
  | some (b, q1) => match lk_lt b 0 9 q1 with
    | none => none
    | some q2 => match lk_sk 9 q2 (lk_g q2 1) (y + 1) with
      | none => none
      | some (a, q3) => match lk_lt a b 9 q3 with
        | none => none
        | some q4 => some (lk_g q4 (8 + a), q4)
theorem lk_isolate {f s : Int32} {post : Int32 → St2 → Prop} {q x y r q' : Nat} {u : St2} (hk : lk_ok f s) (h : lk_M f s q u) (hx : x < 50) (hy : y < 50) (hq : lk_iso q x y = some (r, q')) (hp : ∀ u', r < 8 → lk_M f s q' u' → post (nI r) u') : wpX_isolate post u (nI x) (nI y) := by
  obtain ⟨sp, rt, en, cp, rm, xA, xL, xH, a1, a2, a3, a4, a5, a6, a7, a8, a9, a10, a11, a12, a13, a14, a15, a16, a17, a18, a19⟩ := u
  unfold lk_iso at hq
  unfold wpX_isolate
  cases h1 : lk_sk 9 q (lk_g q 1) x with
  | none => rw [h1] at hq; exact absurd hq (fun z => nomatch z)
  | some v1 =>
    obtain ⟨b, q1⟩ := v1
    rw [h1] at hq
    dsimp only at hq
    refine lk_seek h (by omega) h1 (fun u hb k1 => ?_)
    obtain ⟨sp, rt, en, cp, rm, xA, xL, xH, a1, a2, a3, a4, a5, a6, a7, a8, a9, a10, a11, a12, a13, a14, a15, a16, a17, a18, a19⟩ := u
    cases h2 : lk_lt b 0 9 q1 with
    | none => rw [h2] at hq; exact absurd hq (fun z => nomatch z)
    | some q2 =>
      rw [h2] at hq
      dsimp only at hq
      refine lk_lift (top := 0) hk k1 hb (by omega) h2 (fun u k2 => ?_)
      obtain ⟨sp, rt, en, cp, rm, xA, xL, xH, a1, a2, a3, a4, a5, a6, a7, a8, a9, a10, a11, a12, a13, a14, a15, a16, a17, a18, a19⟩ := u
      cases h3 : lk_sk 9 q2 (lk_g q2 1) (y + 1) with
      | none => rw [h3] at hq; exact absurd hq (fun z => nomatch z)
      | some v3 =>
        obtain ⟨a, q3⟩ := v3
        rw [h3] at hq
        dsimp only at hq
        dsimp only
        rw [nI_1]
        refine lk_seek k2 (by omega) h3 (fun u ha k3 => ?_)
        obtain ⟨sp, rt, en, cp, rm, xA, xL, xH, a1, a2, a3, a4, a5, a6, a7, a8, a9, a10, a11, a12, a13, a14, a15, a16, a17, a18, a19⟩ := u
        cases h4 : lk_lt a b 9 q3 with
        | none => rw [h4] at hq; exact absurd hq (fun z => nomatch z)
        | some q4 =>
          rw [h4] at hq
          dsimp only at hq
          refine lk_lift hk k3 ha hb h4 (fun u k4 => ?_)
          obtain ⟨sp, rt, en, cp, rm, xA, xL, xH, a1, a2, a3, a4, a5, a6, a7, a8, a9, a10, a11, a12, a13, a14, a15, a16, a17, a18, a19⟩ := u
          have e := Option.some.inj hq
          have e1 : lk_g q4 (8 + a) = r := congrArg Prod.fst e
          have e2 : q4 = q' := congrArg Prod.snd e
          have k4' := k4
          obtain ⟨_, _, _, _, _, k6, _⟩ := k4'
          have er : a1 (nI a).toNatClampNeg = nI r := by rw [nI_clamp (by omega), ← e1]; exact k6 a ha
          refine ⟨pk_in a 43 (by omega), ?_⟩
          dsimp only
          rw [er]
          rw [e2] at k4
          exact hp _ (by rw [← e1]; exact lk_g_lt _ _) k4
def lk_hc (q : Nat) : Nat := lk_pl q (lk_g q 1)
def lk_hb (q n a : Nat) : Nat := if n = 0 then lk_hc (lk_pl (lk_w q (8 + a) n) a) else lk_hc (lk_pl (lk_w (lk_w q (8 + a) n) (24 + n) a) a)
def lk_ha (q n : Nat) : Nat := lk_hb q n (lk_g q (16 + lk_g q 1))
theorem lk_28 {f s : Int32} {post : St2 → Prop} {sp rt en cp rm xA xL xH : Int32} {a1 a2 a3 a4 a5 a6 a7 a8 a9 a10 a11 a12 a13 a14 a15 a16 a17 a18 a19 : Nat → Int32} {q a : Nat} (hk : lk_ok f s) (h : lk_M f s q (sp, rt, en, cp, rm, xA, xL, xH, a1, a2, a3, a4, a5, a6, a7, a8, a9, a10, a11, a12, a13, a14, a15, a16, a17, a18, a19)) (ha : a < 8) (hp : ∀ u, lk_M f s (lk_hc (lk_pl q a)) u → post u) : wX_hang_28 post (nI a) sp rt en cp rm xA xL xH a1 a2 a3 a4 a5 a6 a7 a8 a9 a10 a11 a12 a13 a14 a15 a16 a17 a18 a19 := by
  unfold wX_hang_28
  refine lk_pull hk h ha (fun u k => ?_)
  obtain ⟨sp, rt, en, cp, rm, xA, xL, xH, a1, a2, a3, a4, a5, a6, a7, a8, a9, a10, a11, a12, a13, a14, a15, a16, a17, a18, a19⟩ := u
  have k' := k
  obtain ⟨_, k2, _⟩ := k'
  subst k2
  refine lk_pull hk k (lk_g_lt _ _) (fun u k => ?_)
  obtain ⟨sp, rt, en, cp, rm, xA, xL, xH, a1, a2, a3, a4, a5, a6, a7, a8, a9, a10, a11, a12, a13, a14, a15, a16, a17, a18, a19⟩ := u
  exact hp _ k
theorem lk_hang {f s : Int32} {post : St2 → Prop} {q n : Nat} {u : St2} (hk : lk_ok f s) (h : lk_M f s q u) (hn : n < 8) (hp : ∀ u', lk_M f s (lk_ha q n) u' → post u') : wpX_hang post u (nI n) := by
  obtain ⟨sp, rt, en, cp, rm, xA, xL, xH, a1, a2, a3, a4, a5, a6, a7, a8, a9, a10, a11, a12, a13, a14, a15, a16, a17, a18, a19⟩ := u
  have h' := h
  obtain ⟨h1, h2, h3, h4, h5, h6, h7, h8, h9, h10, h11, h12, h13, h14, h15, h16, h17⟩ := h'
  subst h2
  have hr := lk_g_lt q 1
  have cr : (nI (lk_g q 1)).toNatClampNeg = lk_g q 1 := nI_clamp (by omega)
  have ea : a2 (nI (lk_g q 1)).toNatClampNeg = nI (lk_g q (16 + lk_g q 1)) := by rw [cr]; exact h7 _ hr
  unfold lk_ha at hp
  have ha := lk_g_lt q (16 + lk_g q 1)
  unfold wpX_hang
  refine ⟨pk_in (lk_g q 1) 43 (by omega), nm_r ea ?_⟩
  revert hp ha
  generalize lk_g q (16 + lk_g q 1) = a
  intro hp ha
  unfold lk_hb at hp
  refine ⟨pk_in a 43 (by omega), nm_e (pk_eq n 0 (fun e => ?_) (fun e => ⟨pk_in n 43 (by omega), nm_e ?_⟩))⟩
  · rw [if_pos e] at hp
    exact lk_28 hk (lk_s_lf h ha hn rfl) ha hp
  · rw [if_neg e] at hp
    exact lk_28 hk (lk_s_up (lk_s_lf h ha hn rfl) hn ha rfl) ha hp
def lk_inc (q : Nat) : Option Nat := if lk_g q 2 < 7 then some (lk_w q 2 (lk_g q 2 + 1)) else none
def lk_pc (q x n c : Nat) : Option Nat :=
  match lk_iso (lk_su q n c) x x with
  | none => none
  | some (_, q1) => lk_inc (lk_ha q1 n)
def lk_place (q x c : Nat) : Option Nat := if lk_g q 0 < 5 then lk_pc (lk_w q 0 (lk_g q 0 + 1)) x (lk_g q 0 + 3) c else none
theorem lk_placeL {f s : Int32} {post : St2 → Prop} {q x c q' : Nat} {u : St2} {p1 p2 : Int32} (hk : lk_ok f s) (h : lk_M f s q u) (hx : x < 50) (hc : c < 8) (hN : lk_N f s c p1 p2) (hq : lk_place q x c = some q') (hp : ∀ u', lk_M f s q' u' → post u') : wpX_place post u (nI x) p1 p2 0 := by
  obtain ⟨sp, rt, en, cp, rm, xA, xL, xH, a1, a2, a3, a4, a5, a6, a7, a8, a9, a10, a11, a12, a13, a14, a15, a16, a17, a18, a19⟩ := u
  unfold lk_place at hq
  by_cases h5 : lk_g q 0 < 5
  rotate_left
  · rw [if_neg h5] at hq
    exact absurd hq (fun z => nomatch z)
  rw [if_pos h5] at hq
  have h' := h
  obtain ⟨k1, _, _, _, _, _, _, _, _, _, _, _, _, _, _, _, k17⟩ := h'
  have e1 : sp - 1 = nI (40 - (lk_g q 0 + 1)) := by
    rw [k1, show (1 : Int32) = nI 1 from rfl, pk_sub (by omega)]
    congr 1
  have e2 : a16 (nI (40 - (lk_g q 0 + 1))).toNatClampNeg = nI (lk_g q 0 + 3) := by
    rw [nI_clamp (by omega), k17 _ (by omega)]
    congr 1
    omega
  have M1 := lk_s_sp h (v := lk_g q 0 + 1) (by omega) rfl
  unfold wpX_place
  refine nm_r e1 ⟨pk_in (40 - (lk_g q 0 + 1)) 43 (by omega), nm_r e2 ?_⟩
  revert hq M1 h5
  generalize lk_g q 0 = m
  intro hq h5 M1
  unfold lk_pc at hq
  refine lk_setUp hk M1 (by omega) hc hN (fun u k => ?_)
  obtain ⟨sp, rt, en, cp, rm, xA, xL, xH, a1, a2, a3, a4, a5, a6, a7, a8, a9, a10, a11, a12, a13, a14, a15, a16, a17, a18, a19⟩ := u
  cases hi : lk_iso (lk_su (lk_w q 0 (m + 1)) (m + 3) c) x x with
  | none => rw [hi] at hq; exact absurd hq (fun z => nomatch z)
  | some v =>
    obtain ⟨r, q1⟩ := v
    rw [hi] at hq
    dsimp only at hq
    refine lk_isolate hk k hx hx hi (fun u _ k => ?_)
    obtain ⟨sp, rt, en, cp, rm, xA, xL, xH, a1, a2, a3, a4, a5, a6, a7, a8, a9, a10, a11, a12, a13, a14, a15, a16, a17, a18, a19⟩ := u
    refine lk_hang hk k (by omega) (fun u k => ?_)
    obtain ⟨sp, rt, en, cp, rm, xA, xL, xH, a1, a2, a3, a4, a5, a6, a7, a8, a9, a10, a11, a12, a13, a14, a15, a16, a17, a18, a19⟩ := u
    unfold lk_inc at hq
    revert hq k
    generalize lk_ha q1 (m + 3) = q2
    intro hq k
    by_cases h7 : lk_g q2 2 < 7
    · rw [if_pos h7] at hq
      have e := Option.some.inj hq
      have k' := k
      obtain ⟨_, _, k3, _⟩ := k'
      refine nm_e (hp _ ?_)
      rw [← e]
      exact lk_s_en k (by omega) (by rw [k3, nI_1])
    · rw [if_neg h7] at hq
      exact absurd hq (fun z => nomatch z)
end
section
/-! the public calls -/
theorem lk_53 {f s : Int32} {post : Int32 → St2 → Prop} {sp rt en cp rm xA xL xH : Int32} {a1 a2 a3 a4 a5 a6 a7 a8 a9 a10 a11 a12 a13 a14 a15 a16 a17 a18 a19 : Nat → Int32} {q x c q' : Nat} {p1 p2 z0 : Int32} (hk : lk_ok f s) (h : lk_M f s q (sp, rt, en, cp, rm, xA, xL, xH, a1, a2, a3, a4, a5, a6, a7, a8, a9, a10, a11, a12, a13, a14, a15, a16, a17, a18, a19)) (hx : x < 50) (hc : c < 8) (hN : lk_N f s c p1 p2) (hlo : ¬ p2 < z0) (hhi : p2 ≤ cp) (hq : lk_place q x c = some q') (hp : ∀ u', lk_M f s q' u' → post (nI (lk_g q' 2)) u') : wX_insert_53 post (nI x) p1 p2 z0 sp rt en cp rm xA xL xH a1 a2 a3 a4 a5 a6 a7 a8 a9 a10 a11 a12 a13 a14 a15 a16 a17 a18 a19 := by
  unfold wX_insert_53
  refine br_f hlo (br_t hhi (lk_placeL hk h hx hc hN hq (fun u k => ?_)))
  obtain ⟨sp, rt, en, cp, rm, xA, xL, xH, a1, a2, a3, a4, a5, a6, a7, a8, a9, a10, a11, a12, a13, a14, a15, a16, a17, a18, a19⟩ := u
  have k' := k
  obtain ⟨_, _, k3, _⟩ := k'
  subst k3
  exact hp _ k
theorem lk_insOK {f s : Int32} {post : Int32 → St2 → Prop} {q x c q' : Nat} {u : St2} {p1 p2 : Int32} (hk : lk_ok f s) (h : lk_M f s q u) (he : lk_g q 2 ≠ 2) (hx : x ≤ lk_g q 2) (h0 : ¬ p1 < 0) (h3' : p1 ≤ 3) (hA : p1 = 0 → ¬ p2 < -20) (hB : ¬ p1 = 0 → ¬ p2 < 0) (hhi : p2 ≤ 20) (hc : c < 8) (hN : lk_N f s c p1 p2) (hq : lk_place q x c = some q') (hp : ∀ u', lk_M f s q' u' → post (nI (lk_g q' 2)) u') : wpX_insert post u (nI x) p1 p2 := by
  obtain ⟨sp, rt, en, cp, rm, xA, xL, xH, a1, a2, a3, a4, a5, a6, a7, a8, a9, a10, a11, a12, a13, a14, a15, a16, a17, a18, a19⟩ := u
  have h' := h
  obtain ⟨h1, h2, h3, h4, h5, h6, h7, h8, h9, h10, h11, h12, h13, h14, h15, h16, h17⟩ := h'
  subst h3 h4 h5
  have hg := lk_g_lt q 2
  unfold wpX_insert
  exact pk_eq (lk_g q 2) 2 (fun e => absurd e he) (fun _ => pk_lt x 0 (fun z => absurd z (by omega)) (fun _ => pk_le x (lk_g q 2) (fun _ => br_f h0 (br_t h3' (br_c (fun e => lk_53 hk h (by omega) hc hN (hA e) hhi hq hp) (fun e => lk_53 hk h (by omega) hc hN (hB e) hhi hq hp)))) (fun z => absurd z (by omega))))
theorem lk_insR {f s : Int32} {post : Int32 → St2 → Prop} {q x : Nat} {u : St2} {p1 p2 : Int32} (h : lk_M f s q u) (he : lk_g q 2 ≠ 2) (hx : x ≤ lk_g q 2) (h0 : ¬ p1 < 0) (h3' : p1 ≤ 3) (hA : p1 = 0 → p2 < -20 ∨ ¬ p2 ≤ 20) (hB : ¬ p1 = 0 → p2 < 0 ∨ ¬ p2 ≤ 20) (hp : post (-4) u) : wpX_insert post u (nI x) p1 p2 := by
  obtain ⟨sp, rt, en, cp, rm, xA, xL, xH, a1, a2, a3, a4, a5, a6, a7, a8, a9, a10, a11, a12, a13, a14, a15, a16, a17, a18, a19⟩ := u
  have h' := h
  obtain ⟨h1, h2, h3, h4, h5, h6, h7, h8, h9, h10, h11, h12, h13, h14, h15, h16, h17⟩ := h'
  subst h3 h4 h5
  have hg := lk_g_lt q 2
  have key : ∀ z0 : Int32, p2 < z0 ∨ ¬ p2 ≤ 20 → wX_insert_53 post (nI x) p1 p2 z0 sp rt (nI (lk_g q 2)) (20) (2) xA xL xH a1 a2 a3 a4 a5 a6 a7 a8 a9 a10 a11 a12 a13 a14 a15 a16 a17 a18 a19 := by
    intro z0 hz
    unfold wX_insert_53
    refine br_c (fun _ => hp) (fun g => br_c (fun g2 => ?_) (fun _ => hp))
    rcases hz with hz | hz
    · exact absurd hz g
    · exact absurd g2 hz
  unfold wpX_insert
  exact pk_eq (lk_g q 2) 2 (fun e => absurd e he) (fun _ => pk_lt x 0 (fun z => absurd z (by omega)) (fun _ => pk_le x (lk_g q 2) (fun _ => br_f h0 (br_t h3' (br_c (fun e => key _ (hA e)) (fun e => key _ (hB e))))) (fun z => absurd z (by omega))))
theorem lk_insF {f s : Int32} {post : Int32 → St2 → Prop} {q : Nat} {u : St2} {p0 p1 p2 : Int32} (h : lk_M f s q u) (he : lk_g q 2 = 2) (hp : post (-1) u) : wpX_insert post u p0 p1 p2 := by
  obtain ⟨sp, rt, en, cp, rm, xA, xL, xH, a1, a2, a3, a4, a5, a6, a7, a8, a9, a10, a11, a12, a13, a14, a15, a16, a17, a18, a19⟩ := u
  have h' := h
  obtain ⟨h1, h2, h3, h4, h5, h6, h7, h8, h9, h10, h11, h12, h13, h14, h15, h16, h17⟩ := h'
  subst h3 h5
  unfold wpX_insert
  exact br_t (by rw [he]; rfl) hp
theorem lk_goodT {f s : Int32} {post : Int32 → Prop} {q y : Nat} {u : St2} (h : lk_M f s q u) (hy : y ≤ lk_g q 2) (hp : post 1) : wpX_good post u 0 (nI y) := by
  obtain ⟨sp, rt, en, cp, rm, xA, xL, xH, a1, a2, a3, a4, a5, a6, a7, a8, a9, a10, a11, a12, a13, a14, a15, a16, a17, a18, a19⟩ := u
  have h' := h
  obtain ⟨h1, h2, h3, h4, h5, h6, h7, h8, h9, h10, h11, h12, h13, h14, h15, h16, h17⟩ := h'
  subst h3
  have hg := lk_g_lt q 2
  unfold wpX_good
  exact br_f (by decide) (pk_lt y 0 (fun z => absurd z (by omega)) (fun _ => pk_lt (lk_g q 2) y (fun z => absurd z (by omega)) (fun _ => hp)))
theorem lk_goodF {f s : Int32} {post : Int32 → Prop} {q y : Nat} {u : St2} (h : lk_M f s q u) (hy : lk_g q 2 < y) (hy2 : y < 50) (hp : post 0) : wpX_good post u 0 (nI y) := by
  obtain ⟨sp, rt, en, cp, rm, xA, xL, xH, a1, a2, a3, a4, a5, a6, a7, a8, a9, a10, a11, a12, a13, a14, a15, a16, a17, a18, a19⟩ := u
  have h' := h
  obtain ⟨h1, h2, h3, h4, h5, h6, h7, h8, h9, h10, h11, h12, h13, h14, h15, h16, h17⟩ := h'
  subst h3
  unfold wpX_good
  exact br_f (by decide) (pk_lt y 0 (fun z => absurd z (by omega)) (fun _ => pk_lt (lk_g q 2) y (fun z => hp) (fun z => absurd z (by omega))))
theorem lk_62 {f s : Int32} {post : Int32 → St2 → Prop} {sp rt en cp rm xA xL xH : Int32} {a1 a2 a3 a4 a5 a6 a7 a8 a9 a10 a11 a12 a13 a14 a15 a16 a17 a18 a19 : Nat → Int32} {q b d : Nat} {x5 : Int32} (hk : lk_ok f s) (h : lk_M f s q (sp, rt, en, cp, rm, xA, xL, xH, a1, a2, a3, a4, a5, a6, a7, a8, a9, a10, a11, a12, a13, a14, a15, a16, a17, a18, a19)) (hb : b < 8) (hd : d < 2) (hp : ∀ u', lk_M f s (lk_ha (lk_pa q b d) b) u' → post x5 u') : wX_setVoid_62 post (nI b) x5 (nI d) (nI b) sp rt en cp rm xA xL xH a1 a2 a3 a4 a5 a6 a7 a8 a9 a10 a11 a12 a13 a14 a15 a16 a17 a18 a19 := by
  unfold wX_setVoid_62
  refine lk_paint h hb hd (fun u k => ?_)
  obtain ⟨sp, rt, en, cp, rm, xA, xL, xH, a1, a2, a3, a4, a5, a6, a7, a8, a9, a10, a11, a12, a13, a14, a15, a16, a17, a18, a19⟩ := u
  refine lk_hang hk k hb (fun u k => ?_)
  obtain ⟨sp, rt, en, cp, rm, xA, xL, xH, a1, a2, a3, a4, a5, a6, a7, a8, a9, a10, a11, a12, a13, a14, a15, a16, a17, a18, a19⟩ := u
  exact hp _ k
theorem lk_setV0 {f s : Int32} {post : Int32 → St2 → Prop} {q b q1 : Nat} {u : St2} (hk : lk_ok f s) (h : lk_M f s q u) (hy : 1 ≤ lk_g q 2) (hq : lk_iso q 0 1 = some (b, q1)) (hc : lk_g q1 (32 + b) = 1) (hl : lk_g q1 (56 + b) = 1) (hp : ∀ u', lk_M f s (lk_ha (lk_pa q1 b 0) b) u' → post 0 u') : wpX_setVoid post u 0 1 0 := by
  obtain ⟨sp, rt, en, cp, rm, xA, xL, xH, a1, a2, a3, a4, a5, a6, a7, a8, a9, a10, a11, a12, a13, a14, a15, a16, a17, a18, a19⟩ := u
  unfold wpX_setVoid
  refine lk_goodT (y := 1) h hy (br_f (by decide) ?_)
  refine lk_isolate (x := 0) (y := 1) hk h (by omega) (by omega) hq (fun u hb k => ?_)
  obtain ⟨sp, rt, en, cp, rm, xA, xL, xH, a1, a2, a3, a4, a5, a6, a7, a8, a9, a10, a11, a12, a13, a14, a15, a16, a17, a18, a19⟩ := u
  have k' := k
  obtain ⟨h1, h2, h3, h4, h5, h6, h7, h8, h9, h10, h11, h12, h13, h14, h15, h16, h17⟩ := k'
  have Ib : vp_in (nI b) 43 := pk_in b 43 (by omega)
  have e : a4 (nI b).toNatClampNeg - a10 (nI b).toNatClampNeg = 0 := by
    rw [nI_clamp (by omega), h9 b hb (by omega), h13 b hb (by omega), hc, hl]
    rfl
  refine br_t rfl ⟨Ib, Ib, ?_⟩
  rw [e]
  unfold wX_setVoid_48
  exact br_t rfl (lk_62 (d := 0) hk k hb (by omega) hp)
theorem lk_setV1 {f s : Int32} {post : Int32 → St2 → Prop} {q b q1 : Nat} {u : St2} {p2 : Int32} (hk : lk_ok f s) (h : lk_M f s q u) (h2' : ¬ p2 = 0) (hy : 1 ≤ lk_g q 2) (hq : lk_iso q 0 1 = some (b, q1)) (hl : lk_g q1 (56 + b) = 1) (hp : ∀ u', lk_M f s (lk_ha (lk_pa q1 b 1) b) u' → post 1 u') : wpX_setVoid post u 0 1 p2 := by
  obtain ⟨sp, rt, en, cp, rm, xA, xL, xH, a1, a2, a3, a4, a5, a6, a7, a8, a9, a10, a11, a12, a13, a14, a15, a16, a17, a18, a19⟩ := u
  unfold wpX_setVoid
  refine lk_goodT (y := 1) h hy (br_f (by decide) ?_)
  refine lk_isolate (x := 0) (y := 1) hk h (by omega) (by omega) hq (fun u hb k => ?_)
  obtain ⟨sp, rt, en, cp, rm, xA, xL, xH, a1, a2, a3, a4, a5, a6, a7, a8, a9, a10, a11, a12, a13, a14, a15, a16, a17, a18, a19⟩ := u
  have k' := k
  obtain ⟨h1, h2, h3, h4, h5, h6, h7, h8, h9, h10, h11, h12, h13, h14, h15, h16, h17⟩ := k'
  have Ib : vp_in (nI b) 43 := pk_in b 43 (by omega)
  have e : a10 (nI b).toNatClampNeg = 1 := by
    rw [nI_clamp (by omega), h13 b hb (by omega), hl]
    rfl
  refine br_f h2' ⟨Ib, ?_⟩
  rw [e]
  unfold wX_setVoid_48
  exact br_f h2' (lk_62 (d := 1) hk k hb (by omega) hp)
theorem lk_setVF {f s : Int32} {post : Int32 → St2 → Prop} {q : Nat} {u : St2} {p2 : Int32} (h : lk_M f s q u) (hy : lk_g q 2 = 0) (hp : post (-1) u) : wpX_setVoid post u 0 1 p2 := by
  obtain ⟨sp, rt, en, cp, rm, xA, xL, xH, a1, a2, a3, a4, a5, a6, a7, a8, a9, a10, a11, a12, a13, a14, a15, a16, a17, a18, a19⟩ := u
  unfold wpX_setVoid
  exact lk_goodF (y := 1) h (by omega) (by omega) (br_t rfl hp)
theorem lk_runOK {f s : Int32} {post : Int32 → St2 → Prop} {q y b q1 k : Nat} {u : St2} {x : Int32} (hk : lk_ok f s) (h : lk_M f s q u) (hy : y ≤ lk_g q 2) (hx : ¬ x < 0) (hx2 : x ≤ 20) (hq : lk_iso q 0 y = some (b, q1)) (hc : lk_g q1 (80 + b) = k) (hk4 : k < 4) (hp : ∀ u', lk_M f s q1 u' → post (lk_cl (x + (lk_v f s k).1) (lk_v f s k).2.1 (lk_v f s k).2.2) u') : wpX_run post u 0 (nI y) x := by
  obtain ⟨sp, rt, en, cp, rm, xA, xL, xH, a1, a2, a3, a4, a5, a6, a7, a8, a9, a10, a11, a12, a13, a14, a15, a16, a17, a18, a19⟩ := u
  have h' := h
  obtain ⟨_, _, _, k4, _⟩ := h'
  subst k4
  have hg := lk_g_lt q 2
  unfold wpX_run
  refine lk_goodT h hy (br_f (by decide) (br_f hx (br_t hx2 ?_)))
  unfold wpX_load
  refine lk_isolate (x := 0) hk h (by omega) (by omega) hq (fun u hb k => ?_)
  obtain ⟨sp, rt, en, cp, rm, xA, xL, xH, a1, a2, a3, a4, a5, a6, a7, a8, a9, a10, a11, a12, a13, a14, a15, a16, a17, a18, a19⟩ := u
  have k' := k
  obtain ⟨h1, h2, h3, h4, h5, h6, h7, h8, h9, h10, h11, h12, h13, h14, h15, h16, h17⟩ := k'
  have Ib : vp_in (nI (b * 4 + 2)) 172 := pk_in (b * 4 + 2) 172 (by omega)
  have cb : (nI (b * 4 + 2)).toNatClampNeg = b * 4 + 2 := nI_clamp (by omega)
  have E := h16 b hb (by omega)
  rw [hc] at E
  refine nm_r (lk_i4 b 2) ?_
  rw [cb]
  have E1 : a13 (b * 4 + 2) = (lk_v f s _).1 := congrArg Prod.fst E
  have E2 : a14 (b * 4 + 2) = (lk_v f s _).2.1 := congrArg (fun t => t.2.1) E
  have E3 : a15 (b * 4 + 2) = (lk_v f s _).2.2 := congrArg (fun t => t.2.2) E
  exact ⟨Ib, nm_r E1 ⟨Ib, nm_r E2 ⟨Ib, nm_r E3 (lk_clamped (hp _ k))⟩⟩⟩
theorem lk_runX {f s : Int32} {post : Int32 → St2 → Prop} {q y : Nat} {u : St2} {x : Int32} (h : lk_M f s q u) (hy : y ≤ lk_g q 2) (hx : x < 0 ∨ ¬ x ≤ 20) (hp : post (-2) u) : wpX_run post u 0 (nI y) x := by
  obtain ⟨sp, rt, en, cp, rm, xA, xL, xH, a1, a2, a3, a4, a5, a6, a7, a8, a9, a10, a11, a12, a13, a14, a15, a16, a17, a18, a19⟩ := u
  have h' := h
  obtain ⟨_, _, _, k4, _⟩ := h'
  subst k4
  unfold wpX_run
  refine lk_goodT h hy (br_f (by decide) (br_c (fun _ => hp) (fun g => br_c (fun g2 => ?_) (fun _ => hp))))
  rcases hx with z | z
  · exact absurd z g
  · exact absurd g2 z
end
section
/-! the making -/
def lk_q0 : Nat := lk_w (lk_pl (lk_w (lk_w (lk_su (lk_su 0 1 0) 2 0) (16 + 1) 2) (24 + 2) 1) 1) 1 1
theorem lk_g0 (p : Nat) : lk_g 0 p = 0 := by
  unfold lk_g
  rw [Nat.zero_div]
theorem lk_M0 {f s : Int32} {a15 a16 : Nat → Int32} (h15 : ∀ j, j < 172 → a15 j = 20) (h16 : ∀ j, j < 40 → a16 j = nI (42 - j)) : lk_M f s 0 (nI 40, 0, 0, 20, 2, 0, 0, 0, (fun _ => 0), (fun _ => 0), (fun _ => 0), (fun _ => 0), (fun _ => 0), (fun _ => 0), (fun _ => 0), (fun _ => 0), (fun _ => 0), (fun _ => 0), (fun _ => 0), (fun _ => 0), (fun _ => 0), (fun _ => 0), a15, a16, (fun _ => 0), (fun _ => 0), (fun _ => 0)) := by
  have A : ∀ b, lk_A 0 b (fun _ => 0) := fun b i _ => by rw [lk_g0]; rfl
  have B : ∀ b, lk_B 0 b (fun _ => 0) := fun b i _ _ => by rw [lk_g0]; rfl
  have E : ∀ b v, v < 4 → lk_AE f s 0 b v (fun _ => 0) (fun _ => 0) a15 := fun b v hv i hi => by
    rw [lk_g0, h15 _ (by omega)]
    exact fun _ => rfl
  refine lk_mk (by rw [lk_g0]) (by rw [lk_g0]; rfl) (by rw [lk_g0]; rfl) rfl rfl (A _) (A _) (A _) (B _) (A _) (fun _ _ => rfl) (A _) (B _) (fun i _ => ?_) (E _ _ (by omega)) (E _ _ (by omega)) h16
  rw [lk_g0]
  exact ⟨fun _ => ⟨rfl, rfl⟩, fun z => absurd z (by omega), fun z => absurd z (by omega)⟩
theorem lk_209 {f s : Int32} {post : St2 → Prop} {mc ms : Nat} {a15 : Nat → Int32} (hk : lk_ok f s) (h15 : ∀ j, j < 172 → a15 j = 20) (hp : ∀ u, lk_M f s lk_q0 u → post u) : ∃ n, wX_init_209 post mc ms 19 1195 0 0 20 2 0 0 0 n 42 0 (fun _ => 0) (fun _ => 0) (fun _ => 0) (fun _ => 0) (fun _ => 0) (fun _ => 0) (fun _ => 0) (fun _ => 0) (fun _ => 0) (fun _ => 0) (fun _ => 0) (fun _ => 0) (fun _ => 0) (fun _ => 0) a15 (fun _ => 0) (fun _ => 0) (fun _ => 0) (fun _ => 0) := by
  refine pk_loop (fun n i x => wX_init_209 post mc ms 19 1195 0 0 20 2 0 0 0 n (nI (42 - i)) (nI i) (fun _ => 0) (fun _ => 0) (fun _ => 0) (fun _ => 0) (fun _ => 0) (fun _ => 0) (fun _ => 0) (fun _ => 0) (fun _ => 0) (fun _ => 0) (fun _ => 0) (fun _ => 0) (fun _ => 0) (fun _ => 0) a15 x (fun _ => 0) (fun _ => 0) (fun _ => 0)) (fun i x => ∀ j, j < i → x j = nI (42 - j)) 40 0 (fun _ => 0) (by omega) (fun j hj => absurd hj (by omega)) ?_ ?_
  · intro n x hx
    refine br_t (by decide) ?_
    refine lk_setUp (n := 1) (c := 0) hk (lk_M0 h15 hx) (by omega) (by omega) ⟨fun _ => ⟨rfl, rfl⟩, fun z => absurd z (by omega), fun z => absurd z (by omega)⟩ (fun u k => ?_)
    obtain ⟨sp, rt, en, cp, rm, xA, xL, xH, a1, a2, a3, a4, a5, a6, a7, a8, a9, a10, a11, a12, a13, a14, a15, a16, a17, a18, a19⟩ := u
    refine lk_setUp (n := 2) (c := 0) hk k (by omega) (by omega) ⟨fun _ => ⟨rfl, rfl⟩, fun z => absurd z (by omega), fun z => absurd z (by omega)⟩ (fun u k => ?_)
    obtain ⟨sp, rt, en, cp, rm, xA, xL, xH, a1, a2, a3, a4, a5, a6, a7, a8, a9, a10, a11, a12, a13, a14, a15, a16, a17, a18, a19⟩ := u
    have k2 := lk_s_up (n := 2) (v := 1) (x := 1) (lk_s_ri (n := 1) (v := 2) (x := 2) k (by omega) (by omega) rfl) (by omega) (by omega) rfl
    rw [show (nI 1).toNatClampNeg = 1 from rfl, show (nI 2).toNatClampNeg = 2 from rfl] at k2
    refine nm_e (nm_e (lk_pull (n := 1) hk k2 (by omega) (fun u k => ?_)))
    obtain ⟨sp, rt, en, cp, rm, xA, xL, xH, a1, a2, a3, a4, a5, a6, a7, a8, a9, a10, a11, a12, a13, a14, a15, a16, a17, a18, a19⟩ := u
    exact hp _ (lk_s_rt (v := 1) k (by omega) rfl)
  · intro n i x hi hx hw
    have e : nI (42 - i) + (-1) = nI (42 - (i + 1)) := by
      rw [show 42 - i = (42 - (i + 1)) + 1 by omega]
      exact pk_m1 _
    refine br_f (nI_ge (b := 42 - i) (a := 2) (by omega) (by omega)) ⟨pk_in i 43 (by omega), nm_e (nm_r (nI_1 i) (nm_r e (hw _ ?_)))⟩
    intro j hj
    rw [nI_clamp (by omega)]
    by_cases ej : j = i
    · rw [ej, pk_us]
    · rw [pk_un ej]
      exact hx j (by omega)
theorem lk_183 {f s : Int32} {post : St2 → Prop} {mc ms : Nat} (hk : lk_ok f s) (hp : ∀ u, lk_M f s lk_q0 u → post u) : ∃ n, wX_init_183 post mc ms 19 1195 0 0 0 20 2 0 0 0 n 0 (fun _ => 0) (fun _ => 0) (fun _ => 0) (fun _ => 0) (fun _ => 0) (fun _ => 0) (fun _ => 0) (fun _ => 0) (fun _ => 0) (fun _ => 0) (fun _ => 0) (fun _ => 0) (fun _ => 0) (fun _ => 0) (fun _ => 0) (fun _ => 0) (fun _ => 0) (fun _ => 0) (fun _ => 0) := by
  refine pk_loop (fun n i x => wX_init_183 post mc ms 19 1195 0 0 0 20 2 0 0 0 n (nI i) (fun _ => 0) (fun _ => 0) (fun _ => 0) (fun _ => 0) (fun _ => 0) (fun _ => 0) (fun _ => 0) (fun _ => 0) (fun _ => 0) (fun _ => 0) (fun _ => 0) (fun _ => 0) (fun _ => 0) (fun _ => 0) x (fun _ => 0) (fun _ => 0) (fun _ => 0) (fun _ => 0)) (fun i x => ∀ j, j < i → x j = 20) 172 0 (fun _ => 0) (by omega) (fun j hj => absurd hj (by omega)) ?_ ?_
  · intro n x hx
    exact br_t (by decide) (lk_209 hk hx hp)
  · intro n i x hi hx hw
    refine pk_le 172 i (fun z => absurd z (by omega)) (fun _ => ⟨pk_in i 172 hi, nm_e (nm_r (nI_1 i) (hw _ ?_))⟩)
    intro j hj
    rw [nI_clamp (by omega)]
    by_cases ej : j = i
    · rw [ej, pk_us]
    · rw [pk_un ej]
      exact hx j (by omega)
theorem lk_init {f s : Int32} {post : St2 → Prop} {mc ms : Nat} (hk : lk_ok f s) (hmc : 19 ≤ mc) (hms : 1195 ≤ ms) (hp : ∀ u, lk_M f s lk_q0 u → post u) : wpX_init post mc ms (0, 0, 0, 0, 0, 0, 0, 0) 20 2 := by
  unfold wpX_init
  refine ⟨by omega, by omega, by omega, by omega, by omega, by omega, by omega, by omega, by omega, by omega, by omega, by omega, by omega, by omega, by omega, by omega, by omega, by omega, by omega, by omega, by omega, by omega, by omega, by omega, by omega, by omega, by omega, by omega, by omega, by omega, by omega, by omega, by omega, by omega, by omega, by omega, by omega, by omega, lk_clamped ?_⟩
  rw [show lk_cl 20 4 60 = 20 by decide]
  refine lk_clamped ?_
  rw [show lk_cl 2 2 40 = 2 by decide]
  exact lk_183 hk hp
end
section
/-! the pictures of the law's runs, decided -/
/-- the last insert: refused at two entries, else one more -/
def lk_tl (q n : Nat) : Bool := n == 2 || (match lk_place q 0 4 with | none => false | some q' => lk_g q' 2 == n + 1)
/-- the run over all entries: its effect has the code k -/
def lk_rn (q n k : Nat) : Bool := lk_g q 2 == n && lk_tl q n && (match lk_iso q 0 n with | none => false | some (b, q1) => lk_g q1 (80 + b) == k && lk_g q1 2 == n && lk_tl q1 n)
/-- setVoid (0, 1, fl), then the run -/
def lk_sv (q n fl k : Nat) : Bool := lk_g q 2 == n && (if n = 0 then lk_rn q 0 k else (match lk_iso q 0 1 with | none => false | some (b, q1) => lk_g q1 (32 + b) == 1 && lk_g q1 (56 + b) == 1 && lk_rn (lk_ha (lk_pa q1 b fl) b) n k))
/-- behind the first insert (a: it went in), the second one or none -/
def lk_ck (q n a : Nat) : Bool := lk_g q 2 == n && lk_sv q n 0 a && lk_sv q n 1 0 && (match lk_place q n 2 with | none => false | some q' => lk_sv q' (n + 1) 0 (a + 2) && lk_sv q' (n + 1) 1 (if a = 0 then 0 else 2))
theorem lk_ck0 : lk_ck lk_q0 0 0 = true := by decide +kernel
theorem lk_ck1 : (match lk_place lk_q0 0 1 with | none => false | some q => lk_ck q 1 1) = true := by decide +kernel
theorem lk_q0e : lk_g lk_q0 2 = 0 := by decide +kernel
theorem lk_tl_of {q n : Nat} (h : lk_tl q n = true) : n = 2 ∨ ∃ q', lk_place q 0 4 = some q' ∧ lk_g q' 2 = n + 1 := by
  unfold lk_tl at h
  rw [Bool.or_eq_true] at h
  rcases h with h | h
  · exact Or.inl (eq_of_beq h)
  · right
    cases e : lk_place q 0 4 with
    | none => rw [e] at h; exact absurd (show false = true from h) (by decide)
    | some q' => rw [e] at h; exact ⟨q', rfl, eq_of_beq h⟩
theorem lk_rn_of {q n k : Nat} (h : lk_rn q n k = true) : lk_g q 2 = n ∧ lk_tl q n = true ∧ ∃ b q1, lk_iso q 0 n = some (b, q1) ∧ lk_g q1 (80 + b) = k ∧ lk_g q1 2 = n ∧ lk_tl q1 n = true := by
  unfold lk_rn at h
  rw [Bool.and_eq_true, Bool.and_eq_true] at h
  obtain ⟨⟨h1, h2⟩, h3⟩ := h
  refine ⟨eq_of_beq h1, h2, ?_⟩
  cases e : lk_iso q 0 n with
  | none => rw [e] at h3; exact absurd (show false = true from h3) (by decide)
  | some v =>
    obtain ⟨b, q1⟩ := v
    rw [e] at h3
    dsimp only at h3
    rw [Bool.and_eq_true, Bool.and_eq_true] at h3
    exact ⟨b, q1, rfl, eq_of_beq h3.1.1, eq_of_beq h3.1.2, h3.2⟩
theorem lk_sv_of {q n fl k : Nat} (h : lk_sv q n fl k = true) : lk_g q 2 = n ∧ ((n = 0 ∧ lk_rn q 0 k = true) ∨ (n ≠ 0 ∧ ∃ b q1, lk_iso q 0 1 = some (b, q1) ∧ lk_g q1 (32 + b) = 1 ∧ lk_g q1 (56 + b) = 1 ∧ lk_rn (lk_ha (lk_pa q1 b fl) b) n k = true)) := by
  unfold lk_sv at h
  rw [Bool.and_eq_true] at h
  refine ⟨eq_of_beq h.1, ?_⟩
  have h2 := h.2
  by_cases n0 : n = 0
  · rw [if_pos n0] at h2
    exact Or.inl ⟨n0, h2⟩
  · rw [if_neg n0] at h2
    right
    cases e : lk_iso q 0 1 with
    | none => rw [e] at h2; exact absurd (show false = true from h2) (by decide)
    | some v =>
      obtain ⟨b, q1⟩ := v
      rw [e] at h2
      dsimp only at h2
      rw [Bool.and_eq_true, Bool.and_eq_true] at h2
      exact ⟨n0, b, q1, rfl, eq_of_beq h2.1.1, eq_of_beq h2.1.2, h2.2⟩
theorem lk_ck_of {q n a : Nat} (h : lk_ck q n a = true) : lk_g q 2 = n ∧ lk_sv q n 0 a = true ∧ lk_sv q n 1 0 = true ∧ ∃ q', lk_place q n 2 = some q' ∧ lk_sv q' (n + 1) 0 (a + 2) = true ∧ lk_sv q' (n + 1) 1 (if a = 0 then 0 else 2) = true := by
  unfold lk_ck at h
  rw [Bool.and_eq_true, Bool.and_eq_true, Bool.and_eq_true] at h
  obtain ⟨⟨⟨h1, h2⟩, h3⟩, h4⟩ := h
  refine ⟨eq_of_beq h1, h2, h3, ?_⟩
  cases e : lk_place q n 2 with
  | none => rw [e] at h4; exact absurd (show false = true from h4) (by decide)
  | some q' =>
    rw [e] at h4
    dsimp only at h4
    rw [Bool.and_eq_true] at h4
    exact ⟨q', rfl, h4.1, h4.2⟩
theorem lk_first : ∃ q, lk_place lk_q0 0 1 = some q ∧ lk_ck q 1 1 = true := by
  have h := lk_ck1
  cases e : lk_place lk_q0 0 1 with
  | none => rw [e] at h; exact absurd (show false = true from h) (by decide)
  | some q => rw [e] at h; exact ⟨q, rfl, h⟩
/-! what the law says is due -/
def lk_cL (x : Int32) : Int32 := if 0 ≤ x then (if x ≤ 20 then x else 20) else 0
def lk_tr (r s : Int32) : Int32 := if r ≤ s then r else s
theorem lk_d2 : ∀ x, x < 21 → ∀ i, i < 41 → lk_cl (nI x + (nI i - 20)) (lk_cl (0 + (nI i - 20)) 0 20) (lk_cl (20 + (nI i - 20)) 0 20) = lk_cL (nI x + (nI i - 20)) := by decide +kernel
theorem lk_d3 : ∀ x, x < 21 → ∀ j, j < 21 → lk_cl (nI x + 0) 0 (nI j) = lk_tr (nI x) (nI j) := by decide +kernel
theorem lk_d0 : ∀ x, x < 21 → lk_cl (nI x + 0) 0 20 = nI x := by decide +kernel
theorem lk_d4 : ∀ x, x < 21 → ∀ i, i < 41 → ∀ j, j < 21 → lk_cl (nI x + (nI i - 20 + 0)) (lk_cl (lk_cl (0 + (nI i - 20)) 0 20 + 0) 0 (nI j)) (lk_cl (lk_cl (20 + (nI i - 20)) 0 20 + 0) 0 (nI j)) = lk_tr (lk_cL (nI x + (nI i - 20))) (nI j) := by decide +kernel
/-- the effect with code k, applied to x -/
def lk_ef (f s : Int32) (k : Nat) (x : Int32) : Int32 := lk_cl (x + (lk_v f s k).1) (lk_v f s k).2.1 (lk_v f s k).2.2
theorem lk_xr {x : Int32} (h : ¬ x < 0) (h2 : x ≤ 20) : ∃ j : Nat, j < 21 ∧ x = nI j := by
  obtain ⟨j, hj, e⟩ := nI_of2 (M := 20) (n := 20) (by decide) h h2
  exact ⟨j, by omega, e⟩
theorem lk_ef0 {f s x : Int32} (h : ¬ x < 0) (h2 : x ≤ 20) : lk_ef f s 0 x = x := by
  obtain ⟨j, hj, rfl⟩ := lk_xr h h2
  exact lk_d0 j hj
theorem lk_ef1 {f s x : Int32} (hk : lk_ok f s) (h : ¬ x < 0) (h2 : x ≤ 20) : lk_ef f s 1 x = lk_cL (x + f) := by
  obtain ⟨j, hj, rfl⟩ := lk_xr h h2
  obtain ⟨i, _, hi, _, rfl, _⟩ := hk
  have e : (0 : Int32) + (nI i - 20) = nI i - 20 := Int32.zero_add _
  have t := lk_d2 j hj i hi
  show lk_cl (nI j + (0 + (nI i - 20))) (lk_cl (0 + (nI i - 20)) 0 20) (lk_cl (20 + (nI i - 20)) 0 20) = _
  rw [← t, e]
theorem lk_ef2 {f s x : Int32} (hk : lk_ok f s) (h : ¬ x < 0) (h2 : x ≤ 20) : lk_ef f s 2 x = lk_tr x s := by
  obtain ⟨j, hj, rfl⟩ := lk_xr h h2
  obtain ⟨_, i, _, hi, _, rfl⟩ := hk
  exact lk_d3 j hj i hi
theorem lk_ef3 {f s x : Int32} (hk : lk_ok f s) (h : ¬ x < 0) (h2 : x ≤ 20) : lk_ef f s 3 x = lk_tr (lk_cL (x + f)) s := by
  obtain ⟨j, hj, rfl⟩ := lk_xr h h2
  obtain ⟨i, i', hi, hi', rfl, rfl⟩ := hk
  have e : (0 : Int32) + (nI i - 20) = nI i - 20 := Int32.zero_add _
  have t := lk_d4 j hj i hi i' hi'
  show lk_cl (nI j + (0 + (nI i - 20) + 0)) (lk_cl (lk_cl (0 + (nI i - 20)) 0 20 + 0) 0 (nI i')) (lk_cl (lk_cl (20 + (nI i - 20)) 0 20 + 0) 0 (nI i')) = _
  rw [← t, e]
/-- parameters for any two cells -/
theorem lk_fs (x y : Int32) : ∃ f s : Int32, lk_ok f s ∧ (¬ x < -20 → ¬ 20 < x → f = x) ∧ (¬ y < 0 → ¬ 20 < y → s = y) := by
  have hf : ∃ i : Nat, i < 41 ∧ (¬ x < -20 → ¬ 20 < x → nI i - 20 = x) := by
    by_cases h : x < -20
    · exact ⟨0, by omega, fun z => absurd h z⟩
    · by_cases h2 : 20 < x
      · exact ⟨0, by omega, fun _ z => absurd h2 z⟩
      · have a := h
        have b := h2
        rw [Int32.lt_iff_toInt_lt, show (-20 : Int32).toInt = -20 by decide] at a
        rw [Int32.lt_iff_toInt_lt, show (20 : Int32).toInt = 20 by decide] at b
        have t : (x + 20).toInt = x.toInt + 20 := by
          rw [Int32.toInt_add, show (20 : Int32).toInt = 20 by decide]
          apply Int.bmod_eq_of_le <;> omega
        obtain ⟨j, hj, e⟩ := nI_of2 (x := x + 20) (M := 40) (n := 40) (by decide) (by rw [Int32.lt_iff_toInt_lt, t, show (0 : Int32).toInt = 0 by decide]; omega) (by rw [Int32.le_iff_toInt_le, t, show (40 : Int32).toInt = 40 by decide]; omega)
        refine ⟨j, by omega, fun _ _ => ?_⟩
        rw [← e]
        exact Int32.add_sub_cancel _ _
  have hs : ∃ j : Nat, j < 21 ∧ (¬ y < 0 → ¬ 20 < y → nI j = y) := by
    by_cases h : y < 0
    · exact ⟨0, by omega, fun z => absurd h z⟩
    · by_cases h2 : 20 < y
      · exact ⟨0, by omega, fun _ z => absurd h2 z⟩
      · obtain ⟨j, hj, e⟩ := lk_xr h (Int32.not_lt.mp h2)
        exact ⟨j, hj, fun _ _ => e.symm⟩
  obtain ⟨i, hi, ei⟩ := hf
  obtain ⟨j, hj, ej⟩ := hs
  exact ⟨nI i - 20, nI j, ⟨i, j, hi, hj, rfl, rfl⟩, ei, ej⟩
end
section
/-! the law -/
theorem lk_insT {f s : Int32} {post : Int32 → St2 → Prop} {q n : Nat} {u : St2} (hk : lk_ok f s) (h : lk_M f s q u) (hn : n ≤ 2) (hg : lk_g q 2 = n) (ht : lk_tl q n = true) (H : ∀ (r : Int32) (q' : Nat) (u' : St2), lk_M f s q' u' → ((n = 2 ∧ r = -1 ∧ lk_g q' 2 = 2) ∨ (n ≠ 2 ∧ r = nI (n + 1) ∧ lk_g q' 2 = n + 1)) → post r u') : wpX_insert post u 0 1 5 := by
  by_cases n2 : n = 2
  · exact lk_insF h (by omega) (H _ q u h (Or.inl ⟨n2, rfl, by omega⟩))
  · rcases lk_tl_of ht with e | ⟨q', e1, e2⟩
    · exact absurd e n2
    · exact lk_insOK (x := 0) (c := 4) hk h (by omega) (by omega) (by decide) (by decide) (fun z => absurd z (by decide)) (fun _ => by decide) (by decide) (by omega) ⟨fun z => absurd z (by omega), fun z => absurd z (by omega), fun z => absurd z (by omega)⟩ e1 (fun u' k => H _ q' u' k (Or.inr ⟨n2, by rw [e2], e2⟩))
theorem lk_290 {f s : Int32} {post : Int32 → St0 → Prop} {mc ms kc ks : Nat} {q n : Nat} {z0 z1 : Int32} {sp rt en cp rm xA xL xH : Int32} {a1 a2 a3 a4 a5 a6 a7 a8 a9 a10 a11 a12 a13 a14 a15 a16 a17 a18 a19 : Nat → Int32} (hp : post 1 ()) (h : lk_M f s q (sp, rt, en, cp, rm, xA, xL, xH, a1, a2, a3, a4, a5, a6, a7, a8, a9, a10, a11, a12, a13, a14, a15, a16, a17, a18, a19)) (hn : n ≤ 2) (e : z1 = z0) (hc : (n = 2 ∧ lk_g q 2 = 2) ∨ (n ≠ 2 ∧ lk_g q 2 = n + 1)) : wL_lawOf_290 post mc ms (nI n) z0 z1 kc ks sp rt en cp rm xA xL xH a1 a2 a3 a4 a5 a6 a7 a8 a9 a10 a11 a12 a13 a14 a15 a16 a17 a18 a19 := by
  obtain ⟨_, _, k3, _⟩ := h
  subst k3
  unfold wL_lawOf_290
  refine br_t e ?_
  unfold wpX_size
  refine pk_eq n 2 (fun z => ?_) (fun z => ?_)
  · unfold wL_lawOf_314
    exact br_t (by rw [show lk_g q 2 = 2 by omega]; rfl) hp
  · unfold wL_lawOf_314
    exact br_t (by rw [show lk_g q 2 = n + 1 by omega, nI_1]) hp
theorem lk_fin {f s : Int32} {post : Int32 → St0 → Prop} {mc ms kc ks : Nat} {q n : Nat} {r : Int32} {sp rt en cp rm xA xL xH : Int32} {a1 a2 a3 a4 a5 a6 a7 a8 a9 a10 a11 a12 a13 a14 a15 a16 a17 a18 a19 : Nat → Int32} (hp : post 1 ()) (h : lk_M f s q (sp, rt, en, cp, rm, xA, xL, xH, a1, a2, a3, a4, a5, a6, a7, a8, a9, a10, a11, a12, a13, a14, a15, a16, a17, a18, a19)) (hn : n ≤ 2) (c : (n = 2 ∧ r = -1 ∧ lk_g q 2 = 2) ∨ (n ≠ 2 ∧ r = nI (n + 1) ∧ lk_g q 2 = n + 1)) : (nI n = 2 → wL_lawOf_290 post mc ms (nI n) (-1) r kc ks sp rt en cp rm xA xL xH a1 a2 a3 a4 a5 a6 a7 a8 a9 a10 a11 a12 a13 a14 a15 a16 a17 a18 a19) ∧ (¬ nI n = 2 → wL_lawOf_290 post mc ms (nI n) (nI n + 1) r kc ks sp rt en cp rm xA xL xH a1 a2 a3 a4 a5 a6 a7 a8 a9 a10 a11 a12 a13 a14 a15 a16 a17 a18 a19) := by
  rcases c with ⟨c1, c2, c3⟩ | ⟨c1, c2, c3⟩
  · exact pk_eq n 2 (fun _ => lk_290 hp h hn c2 (Or.inl ⟨c1, c3⟩)) (fun z => absurd c1 z)
  · exact pk_eq n 2 (fun z => absurd z c1) (fun _ => lk_290 hp h hn (by rw [c2, nI_1]) (Or.inr ⟨c1, c3⟩))
theorem lk_252 {f s : Int32} {post : Int32 → St0 → Prop} {mc ms kc ks : Nat} {q n k : Nat} {x3 x9 : Int32} {sp rt en cp rm xA xL xH : Int32} {a1 a2 a3 a4 a5 a6 a7 a8 a9 a10 a11 a12 a13 a14 a15 a16 a17 a18 a19 : Nat → Int32} (hk : lk_ok f s) (hp : post 1 ()) (h : lk_M f s q (sp, rt, en, cp, rm, xA, xL, xH, a1, a2, a3, a4, a5, a6, a7, a8, a9, a10, a11, a12, a13, a14, a15, a16, a17, a18, a19)) (hn : n ≤ 2) (hrn : lk_rn q n k = true) (hk4 : k < 4) (hin : ¬ x3 < 0 → x3 ≤ 20 → x9 = lk_ef f s k x3) (hout : x3 < 0 ∨ ¬ x3 ≤ 20 → x9 = -2) : wL_lawOf_252 post mc ms x3 (nI n) x9 kc ks sp rt en cp rm xA xL xH a1 a2 a3 a4 a5 a6 a7 a8 a9 a10 a11 a12 a13 a14 a15 a16 a17 a18 a19 := by
  obtain ⟨hg, ht, b, q1, hi, hb, hg1, ht1⟩ := lk_rn_of hrn
  unfold wL_lawOf_252
  by_cases hx : x3 < 0 ∨ ¬ x3 ≤ 20
  · refine lk_runX h (by omega) hx (br_t (hout hx).symm (lk_insT hk h hn hg ht (fun r q' u' k c => ?_)))
    obtain ⟨sp, rt, en, cp, rm, xA, xL, xH, a1, a2, a3, a4, a5, a6, a7, a8, a9, a10, a11, a12, a13, a14, a15, a16, a17, a18, a19⟩ := u'
    exact lk_fin hp k hn c
  · have g : ¬ x3 < 0 := fun z => hx (Or.inl z)
    have g2 : x3 ≤ 20 := Decidable.byContradiction (fun z => hx (Or.inr z))
    refine lk_runOK hk h (by omega) g g2 hi hb hk4 (fun u k1 => ?_)
    obtain ⟨sp, rt, en, cp, rm, xA, xL, xH, a1, a2, a3, a4, a5, a6, a7, a8, a9, a10, a11, a12, a13, a14, a15, a16, a17, a18, a19⟩ := u
    refine br_t (hin g g2).symm (lk_insT hk k1 hn hg1 ht1 (fun r q' u' k c => ?_))
    obtain ⟨sp, rt, en, cp, rm, xA, xL, xH, a1, a2, a3, a4, a5, a6, a7, a8, a9, a10, a11, a12, a13, a14, a15, a16, a17, a18, a19⟩ := u'
    exact lk_fin hp k hn c
def lk_r0 (x0 x2 x3 : Int32) (a : Nat) : Int32 := if a = 1 ∧ x2 = 0 then lk_cL (x3 + x0) else x3
def lk_due (x0 x1 x2 x3 : Int32) (a c : Nat) : Int32 := if c = 1 ∧ (a = 1 ∨ x2 = 0) then lk_tr (lk_r0 x0 x2 x3 a) x1 else lk_r0 x0 x2 x3 a
theorem lk_217 {post : Int32 → St0 → Prop} {mc ms kc ks : Nat} {a c : Nat} {x1 x2 x3 x6 r : Int32} {sp rt en cp rm xA xL xH : Int32} {a1 a2 a3 a4 a5 a6 a7 a8 a9 a10 a11 a12 a13 a14 a15 a16 a17 a18 a19 : Nat → Int32} (ha : a < 2) (hc : c < 2) (H : ∀ x9, x9 = (if c = 1 ∧ (a = 1 ∨ x2 = 0) then lk_tr r x1 else r) → wL_lawOf_252 post mc ms x3 x6 x9 kc ks sp rt en cp rm xA xL xH a1 a2 a3 a4 a5 a6 a7 a8 a9 a10 a11 a12 a13 a14 a15 a16 a17 a18 a19) : wL_lawOf_217 post mc ms x1 x2 x3 (nI a) x6 (nI c) r kc ks sp rt en cp rm xA xL xH a1 a2 a3 a4 a5 a6 a7 a8 a9 a10 a11 a12 a13 a14 a15 a16 a17 a18 a19 := by
  have T : c = 1 ∧ (a = 1 ∨ x2 = 0) → wL_lawOf_231 post mc ms x1 x3 x6 r kc ks sp rt en cp rm xA xL xH a1 a2 a3 a4 a5 a6 a7 a8 a9 a10 a11 a12 a13 a14 a15 a16 a17 a18 a19 := by
    intro t
    rw [if_pos t] at H
    unfold wL_lawOf_231 wL_lawOf_236
    exact br_f (by decide) (br_c (fun e => H _ (by unfold lk_tr; rw [if_pos e])) (fun e => H _ (by unfold lk_tr; rw [if_neg e])))
  have F : ¬ (c = 1 ∧ (a = 1 ∨ x2 = 0)) → wL_lawOf_235 post mc ms x1 x3 x6 r kc ks sp rt en cp rm xA xL xH a1 a2 a3 a4 a5 a6 a7 a8 a9 a10 a11 a12 a13 a14 a15 a16 a17 a18 a19 := by
    intro t
    rw [if_neg t] at H
    unfold wL_lawOf_235 wL_lawOf_236
    exact br_t rfl (H _ rfl)
  unfold wL_lawOf_217
  refine pk_eq c 0 (fun e => F (fun t => absurd t.1 (by omega))) (fun e => pk_eq a 0 (fun e2 => br_c (fun e3 => T ⟨by omega, Or.inr e3⟩) (fun e3 => F (fun t => ?_))) (fun e2 => T ⟨by omega, Or.inl (by omega)⟩))
  rcases t.2 with z | z
  · omega
  · exact e3 z
theorem lk_lclamp {post : Int32 → Prop} {x : Int32} (h : post (lk_cL x)) : wpL_clamp post () x 20 := by
  unfold lk_cL at h
  refine br_c (fun a => br_c (fun b => ?_) (fun b => ?_)) (fun a => ?_)
  · rw [if_pos a, if_pos b] at h
    exact h
  · rw [if_pos a, if_neg b] at h
    exact h
  · rw [if_neg a] at h
    exact h
theorem lk_172 {f s : Int32} {post : Int32 → St0 → Prop} {mc ms kc ks : Nat} {q n k a c : Nat} {x0 x1 x2 x3 z0 z1 : Int32} {sp rt en cp rm xA xL xH : Int32} {a1 a2 a3 a4 a5 a6 a7 a8 a9 a10 a11 a12 a13 a14 a15 a16 a17 a18 a19 : Nat → Int32} (hk : lk_ok f s) (hp : post 1 ()) (h : lk_M f s q (sp, rt, en, cp, rm, xA, xL, xH, a1, a2, a3, a4, a5, a6, a7, a8, a9, a10, a11, a12, a13, a14, a15, a16, a17, a18, a19)) (hn : n ≤ 2) (hrn : lk_rn q n k = true) (hk4 : k < 4) (ha : a < 2) (hc : c < 2) (hd : ¬ x3 < 0 → x3 ≤ 20 → lk_due x0 x1 x2 x3 a c = lk_ef f s k x3) (e : z1 = z0) : wL_lawOf_172 post mc ms x0 x1 x2 x3 (nI a) (nI n) (nI c) z0 z1 kc ks sp rt en cp rm xA xL xH a1 a2 a3 a4 a5 a6 a7 a8 a9 a10 a11 a12 a13 a14 a15 a16 a17 a18 a19 := by
  have X : x3 < 0 ∨ ¬ x3 ≤ 20 → wL_lawOf_190 post mc ms x3 (nI n) kc ks sp rt en cp rm xA xL xH a1 a2 a3 a4 a5 a6 a7 a8 a9 a10 a11 a12 a13 a14 a15 a16 a17 a18 a19 := by
    intro hx
    unfold wL_lawOf_190
    refine lk_252 hk hp h hn hrn hk4 (fun g g2 => ?_) (fun _ => rfl)
    rcases hx with z | z
    · exact absurd z g
    · exact absurd g2 z
  have Y : ¬ x3 < 0 → x3 ≤ 20 → wL_lawOf_217 post mc ms x1 x2 x3 (nI a) (nI n) (nI c) (lk_r0 x0 x2 x3 a) kc ks sp rt en cp rm xA xL xH a1 a2 a3 a4 a5 a6 a7 a8 a9 a10 a11 a12 a13 a14 a15 a16 a17 a18 a19 := by
    intro g g2
    refine lk_217 ha hc (fun x9 e9 => lk_252 hk hp h hn hrn hk4 (fun _ _ => ?_) (fun z => ?_))
    · rw [e9]
      exact hd g g2
    · rcases z with z | z
      · exact absurd z g
      · exact absurd g2 z
  unfold wL_lawOf_172
  refine br_t e (br_c (fun z => X (Or.inl z)) (fun g => br_c (fun g2 => pk_eq a 0 (fun ea => ?_) (fun ea => br_c (fun e2 => ?_) (fun e2 => ?_))) (fun g2 => X (Or.inr g2))))
  · have t := Y g g2
    unfold lk_r0 at t
    rw [if_neg (fun t => absurd t.1 (by omega))] at t
    exact t
  · have t := Y g g2
    unfold lk_r0 at t
    rw [if_pos ⟨by omega, e2⟩] at t
    exact lk_lclamp t
  · have t := Y g g2
    unfold lk_r0 at t
    rw [if_neg (fun t => e2 t.2)] at t
    exact t
theorem lk_134 {f s : Int32} {post : Int32 → St0 → Prop} {mc ms kc ks : Nat} {q n k a c fl : Nat} {x0 x1 x2 x3 z0 : Int32} {sp rt en cp rm xA xL xH : Int32} {a1 a2 a3 a4 a5 a6 a7 a8 a9 a10 a11 a12 a13 a14 a15 a16 a17 a18 a19 : Nat → Int32} (hk : lk_ok f s) (hp : post 1 ()) (h : lk_M f s q (sp, rt, en, cp, rm, xA, xL, xH, a1, a2, a3, a4, a5, a6, a7, a8, a9, a10, a11, a12, a13, a14, a15, a16, a17, a18, a19)) (hn : n ≤ 2) (hsv : lk_sv q n fl k = true) (hk4 : k < 4) (ha : a < 2) (hc : c < 2) (hfl : (fl = 0 ∧ x2 = 0) ∨ (fl = 1 ∧ ¬ x2 = 0)) (hz : a ≠ 0 → (x2 = 0 → z0 = 0) ∧ (¬ x2 = 0 → z0 = 1)) (hd : ¬ x3 < 0 → x3 ≤ 20 → lk_due x0 x1 x2 x3 a c = lk_ef f s k x3) : wL_lawOf_134 post mc ms x0 x1 x2 x3 (nI a) (nI n) (nI c) z0 kc ks sp rt en cp rm xA xL xH a1 a2 a3 a4 a5 a6 a7 a8 a9 a10 a11 a12 a13 a14 a15 a16 a17 a18 a19 := by
  obtain ⟨hg, hcs⟩ := lk_sv_of hsv
  unfold wL_lawOf_134
  rcases hcs with ⟨n0, hrn⟩ | ⟨n0, b, q1, hi, hct, hlv, hrn⟩
  · subst n0
    exact lk_setVF h hg (br_t rfl (lk_172 hk hp h hn hrn hk4 ha hc hd rfl))
  · rcases hfl with ⟨f0, x20⟩ | ⟨f1, x21⟩
    · subst f0 x20
      refine lk_setV0 hk h (by omega) hi hct hlv (fun u k1 => ?_)
      obtain ⟨sp, rt, en, cp, rm, xA, xL, xH, a1, a2, a3, a4, a5, a6, a7, a8, a9, a10, a11, a12, a13, a14, a15, a16, a17, a18, a19⟩ := u
      exact pk_eq n 0 (fun z => absurd z n0) (fun _ => pk_eq a 0 (fun _ => br_t rfl (lk_172 hk hp k1 hn hrn hk4 ha hc hd rfl)) (fun ea => lk_172 hk hp k1 hn hrn hk4 ha hc hd ((hz ea).1 rfl).symm))
    · subst f1
      refine lk_setV1 hk h x21 (by omega) hi hlv (fun u k1 => ?_)
      obtain ⟨sp, rt, en, cp, rm, xA, xL, xH, a1, a2, a3, a4, a5, a6, a7, a8, a9, a10, a11, a12, a13, a14, a15, a16, a17, a18, a19⟩ := u
      exact pk_eq n 0 (fun z => absurd z n0) (fun _ => pk_eq a 0 (fun _ => br_f x21 (lk_172 hk hp k1 hn hrn hk4 ha hc hd rfl)) (fun ea => lk_172 hk hp k1 hn hrn hk4 ha hc hd ((hz ea).2 x21).symm))
theorem lk_120 {f s : Int32} {post : Int32 → St0 → Prop} {mc ms kc ks : Nat} {q n k a c fl : Nat} {x0 x1 x2 x3 : Int32} {sp rt en cp rm xA xL xH : Int32} {a1 a2 a3 a4 a5 a6 a7 a8 a9 a10 a11 a12 a13 a14 a15 a16 a17 a18 a19 : Nat → Int32} (hk : lk_ok f s) (hp : post 1 ()) (h : lk_M f s q (sp, rt, en, cp, rm, xA, xL, xH, a1, a2, a3, a4, a5, a6, a7, a8, a9, a10, a11, a12, a13, a14, a15, a16, a17, a18, a19)) (hn : n ≤ 2) (hsv : lk_sv q n fl k = true) (hk4 : k < 4) (ha : a < 2) (hc : c < 2) (hfl : (fl = 0 ∧ x2 = 0) ∨ (fl = 1 ∧ ¬ x2 = 0)) (hd : ¬ x3 < 0 → x3 ≤ 20 → lk_due x0 x1 x2 x3 a c = lk_ef f s k x3) : wL_lawOf_120 post mc ms x0 x1 x2 x3 (nI a) (nI n) (nI c) kc ks sp rt en cp rm xA xL xH a1 a2 a3 a4 a5 a6 a7 a8 a9 a10 a11 a12 a13 a14 a15 a16 a17 a18 a19 := by
  unfold wL_lawOf_120
  refine pk_eq a 0 (fun ea => ?_) (fun ea => br_c (fun e2 => ?_) (fun e2 => ?_))
  · unfold wL_lawOf_133
    exact lk_134 hk hp h hn hsv hk4 ha hc hfl (fun z => absurd ea z) hd
  · unfold wL_lawOf_133
    exact lk_134 hk hp h hn hsv hk4 ha hc hfl (fun _ => ⟨fun _ => rfl, fun z => absurd e2 z⟩) hd
  · exact lk_134 hk hp h hn hsv hk4 ha hc hfl (fun _ => ⟨fun z => absurd z e2, fun _ => rfl⟩) hd
/-- what is due is the effect's answer -/
theorem lk_dA {f s x0 x1 x3 : Int32} {a c : Nat} (hk : lk_ok f s) (ha : a < 2) (hc : c < 2) (hf : a = 1 → f = x0) (hs : c = 1 → s = x1) (g : ¬ x3 < 0) (g2 : x3 ≤ 20) : lk_due x0 x1 0 x3 a c = lk_ef f s (if c = 1 then a + 2 else a) x3 := by
  unfold lk_due lk_r0
  rcases (show a = 0 ∨ a = 1 by omega) with ea | ea <;> rcases (show c = 0 ∨ c = 1 by omega) with ec | ec
  · subst ea ec
    rw [if_neg (by omega), if_neg (by omega), if_neg (by omega), lk_ef0 g g2]
  · subst ea ec
    rw [if_pos ⟨rfl, Or.inr rfl⟩, if_neg (by omega), if_pos rfl, lk_ef2 hk g g2, hs rfl]
  · subst ea ec
    rw [if_neg (by omega), if_pos ⟨rfl, rfl⟩, if_neg (by omega), lk_ef1 hk g g2, hf rfl]
  · subst ea ec
    rw [if_pos ⟨rfl, Or.inr rfl⟩, if_pos ⟨rfl, rfl⟩, if_pos rfl, lk_ef3 hk g g2, hf rfl, hs rfl]
theorem lk_dB {f s x0 x1 x2 x3 : Int32} {a c : Nat} (hk : lk_ok f s) (ha : a < 2) (hc : c < 2) (hs : c = 1 → s = x1) (h2 : ¬ x2 = 0) (g : ¬ x3 < 0) (g2 : x3 ≤ 20) : lk_due x0 x1 x2 x3 a c = lk_ef f s (if c = 1 then (if a = 0 then 0 else 2) else 0) x3 := by
  have r0 : lk_r0 x0 x2 x3 a = x3 := by
    unfold lk_r0
    rw [if_neg (fun t => h2 t.2)]
  unfold lk_due
  rw [r0]
  rcases (show a = 0 ∨ a = 1 by omega) with ea | ea <;> rcases (show c = 0 ∨ c = 1 by omega) with ec | ec
  · subst ea ec
    rw [if_neg (by omega), if_neg (by omega), lk_ef0 g g2]
  · subst ea ec
    rw [if_neg (fun t => t.2.elim (fun z => absurd z (by omega)) h2), if_pos rfl, if_pos rfl, lk_ef0 g g2]
  · subst ea ec
    rw [if_neg (by omega), if_neg (by omega), lk_ef0 g g2]
  · subst ea ec
    rw [if_pos ⟨rfl, Or.inl rfl⟩, if_pos rfl, if_neg (by omega), lk_ef2 hk g g2, hs rfl]
theorem lk_82 {f s : Int32} {post : Int32 → St0 → Prop} {mc ms kc ks : Nat} {q n a c : Nat} {x0 x1 x2 x3 : Int32} {sp rt en cp rm xA xL xH : Int32} {a1 a2 a3 a4 a5 a6 a7 a8 a9 a10 a11 a12 a13 a14 a15 a16 a17 a18 a19 : Nat → Int32} (hk : lk_ok f s) (hp : post 1 ()) (h : lk_M f s q (sp, rt, en, cp, rm, xA, xL, xH, a1, a2, a3, a4, a5, a6, a7, a8, a9, a10, a11, a12, a13, a14, a15, a16, a17, a18, a19)) (hn : n ≤ 1) (hck : lk_ck q n a = true) (ha : a < 2) (hf : a = 1 → f = x0) (hs : c = 1 → s = x1) (hcr : (c = 0 ∧ (x1 < 0 ∨ 20 < x1)) ∨ (c = 1 ∧ ¬ x1 < 0 ∧ ¬ 20 < x1)) : wL_lawOf_82 post mc ms x0 x1 x2 x3 (nI a) (nI n) (nI c) kc ks sp rt en cp rm xA xL xH a1 a2 a3 a4 a5 a6 a7 a8 a9 a10 a11 a12 a13 a14 a15 a16 a17 a18 a19 := by
  obtain ⟨hg, s0, s1, q', hq, s2, s3⟩ := lk_ck_of hck
  unfold wL_lawOf_82
  rcases hcr with ⟨c0, hx⟩ | ⟨c1, hx, hx2⟩
  · subst c0
    have hx' : x1 < 0 ∨ ¬ x1 ≤ 20 := by
      rcases hx with z | z
      · exact Or.inl z
      · exact Or.inr (Int32.not_le.mpr z)
    refine lk_insR (x := n) h (by omega) (by omega) (by decide) (by decide) (fun z => absurd z (by decide)) (fun _ => hx') (br_t rfl ?_)
    unfold wL_lawOf_107
    refine br_t rfl (br_t rfl ?_)
    by_cases e2 : x2 = 0
    · subst e2
      exact lk_120 (k := a) hk hp h (by omega) s0 (by omega) ha (by omega) (Or.inl ⟨rfl, rfl⟩) (fun g g2 => lk_dA hk ha (by omega) hf hs g g2)
    · exact lk_120 (k := 0) hk hp h (by omega) s1 (by omega) ha (by omega) (Or.inr ⟨rfl, e2⟩) (fun g g2 => lk_dB hk ha (by omega) hs e2 g g2)
  · subst c1
    have hg' := (lk_sv_of s2).1
    have hN : lk_N f s 2 2 x1 := ⟨fun z => absurd z (by omega), fun z => absurd z (by omega), fun _ => ⟨rfl, (hs rfl).symm⟩⟩
    refine lk_insOK (x := n) (c := 2) hk h (by omega) (by omega) (by decide) (by decide) (fun z => absurd z (by decide)) (fun _ => hx) (Int32.not_lt.mp hx2) (by omega) hN hq (fun u k => ?_)
    obtain ⟨sp, rt, en, cp, rm, xA, xL, xH, a1, a2, a3, a4, a5, a6, a7, a8, a9, a10, a11, a12, a13, a14, a15, a16, a17, a18, a19⟩ := u
    refine br_f (by decide) ?_
    unfold wL_lawOf_107
    refine br_t (by rw [hg', nI_1]) (br_f (by decide) (nm_r (nI_1 n) ?_))
    by_cases e2 : x2 = 0
    · subst e2
      exact lk_120 (k := a + 2) hk hp k (by omega) s2 (by omega) ha (by omega) (Or.inl ⟨rfl, rfl⟩) (fun g g2 => lk_dA hk ha (by omega) hf hs g g2)
    · refine lk_120 (k := if a = 0 then 0 else 2) hk hp k (by omega) s3 (by split <;> omega) ha (by omega) (Or.inr ⟨rfl, e2⟩) (fun g g2 => lk_dB hk ha (by omega) hs e2 g g2)
theorem lk_65 {f s : Int32} {post : Int32 → St0 → Prop} {mc ms kc ks : Nat} {q n a : Nat} {x0 x1 x2 x3 : Int32} {sp rt en cp rm xA xL xH : Int32} {a1 a2 a3 a4 a5 a6 a7 a8 a9 a10 a11 a12 a13 a14 a15 a16 a17 a18 a19 : Nat → Int32} (hk : lk_ok f s) (hp : post 1 ()) (h : lk_M f s q (sp, rt, en, cp, rm, xA, xL, xH, a1, a2, a3, a4, a5, a6, a7, a8, a9, a10, a11, a12, a13, a14, a15, a16, a17, a18, a19)) (hn : n ≤ 1) (hck : lk_ck q n a = true) (ha : a < 2) (hf : a = 1 → f = x0) (hs : ¬ x1 < 0 → ¬ 20 < x1 → s = x1) : wL_lawOf_65 post mc ms x0 x1 x2 x3 (nI a) (nI n) kc ks sp rt en cp rm xA xL xH a1 a2 a3 a4 a5 a6 a7 a8 a9 a10 a11 a12 a13 a14 a15 a16 a17 a18 a19 := by
  unfold wL_lawOf_65
  refine br_c (fun e => ?_) (fun e => br_c (fun e2 => ?_) (fun e2 => ?_))
  · unfold wL_lawOf_81
    exact lk_82 (c := 0) hk hp h hn hck ha hf (fun z => absurd z (by omega)) (Or.inl ⟨rfl, Or.inl e⟩)
  · unfold wL_lawOf_81
    exact lk_82 (c := 0) hk hp h hn hck ha hf (fun z => absurd z (by omega)) (Or.inl ⟨rfl, Or.inr e2⟩)
  · exact lk_82 (c := 1) hk hp h hn hck ha hf (fun _ => hs e e2) (Or.inr ⟨rfl, e, e2⟩)
theorem lk_29 {f s : Int32} {post : Int32 → St0 → Prop} {mc ms kc ks : Nat} {a : Nat} {x0 x1 x2 x3 : Int32} {sp rt en cp rm xA xL xH : Int32} {a1 a2 a3 a4 a5 a6 a7 a8 a9 a10 a11 a12 a13 a14 a15 a16 a17 a18 a19 : Nat → Int32} (hk : lk_ok f s) (hp : post 1 ()) (h : lk_M f s lk_q0 (sp, rt, en, cp, rm, xA, xL, xH, a1, a2, a3, a4, a5, a6, a7, a8, a9, a10, a11, a12, a13, a14, a15, a16, a17, a18, a19)) (har : (a = 0 ∧ (x0 < -20 ∨ 20 < x0)) ∨ (a = 1 ∧ ¬ x0 < -20 ∧ ¬ 20 < x0)) (hf : a = 1 → f = x0) (hs : ¬ x1 < 0 → ¬ 20 < x1 → s = x1) : wL_lawOf_29 post mc ms x0 x1 x2 x3 (nI a) kc ks sp rt en cp rm xA xL xH a1 a2 a3 a4 a5 a6 a7 a8 a9 a10 a11 a12 a13 a14 a15 a16 a17 a18 a19 := by
  have h0 := lk_q0e
  unfold wL_lawOf_29
  rcases har with ⟨a0, hx⟩ | ⟨a1', hx, hx2⟩
  · subst a0
    have hx' : x0 < -20 ∨ ¬ x0 ≤ 20 := by
      rcases hx with z | z
      · exact Or.inl z
      · exact Or.inr (Int32.not_le.mpr z)
    refine lk_insR (x := 0) h (by omega) (by omega) (by decide) (by decide) (fun _ => hx') (fun z => absurd rfl z) (br_t rfl ?_)
    unfold wL_lawOf_50
    exact br_t rfl (br_t rfl (lk_65 (n := 0) hk hp h (by omega) lk_ck0 (by omega) hf hs))
  · subst a1'
    obtain ⟨q, hq, hck⟩ := lk_first
    have hg' := (lk_ck_of hck).1
    have hN : lk_N f s 1 0 x0 := ⟨fun z => absurd z (by omega), fun _ => ⟨rfl, (hf rfl).symm⟩, fun z => absurd z (by omega)⟩
    refine lk_insOK (x := 0) (c := 1) hk h (by omega) (by omega) (by decide) (by decide) (fun _ => hx) (fun z => absurd rfl z) (Int32.not_lt.mp hx2) (by omega) hN hq (fun u k => ?_)
    obtain ⟨sp, rt, en, cp, rm, xA, xL, xH, a1, a2, a3, a4, a5, a6, a7, a8, a9, a10, a11, a12, a13, a14, a15, a16, a17, a18, a19⟩ := u
    refine br_f (by decide) ?_
    unfold wL_lawOf_50
    exact br_t (by rw [hg']; rfl) (br_f (by decide) (lk_65 (n := 1) hk hp k (by omega) hck (by omega) hf hs))
theorem lk_lawOf (x0 x1 x2 x3 : Int32) : wpL_lawOf (fun r _ => r = 1) 20 1222 () x0 x1 x2 x3 := by
  obtain ⟨f, s, hk, hf, hs⟩ := lk_fs x0 x1
  unfold wpL_lawOf
  refine ⟨by omega, by omega, 19, 1195, by omega, by omega, lk_init hk (by omega) (by omega) (fun u k => ?_)⟩
  obtain ⟨sp, rt, en, cp, rm, xA, xL, xH, a1, a2, a3, a4, a5, a6, a7, a8, a9, a10, a11, a12, a13, a14, a15, a16, a17, a18, a19⟩ := u
  refine br_c (fun e => ?_) (fun e => br_c (fun e2 => ?_) (fun e2 => ?_))
  · unfold wL_lawOf_28
    exact lk_29 (a := 0) hk rfl k (Or.inl ⟨rfl, Or.inl e⟩) (fun z => absurd z (by omega)) hs
  · unfold wL_lawOf_28
    exact lk_29 (a := 0) hk rfl k (Or.inl ⟨rfl, Or.inr e2⟩) (fun z => absurd z (by omega)) hs
  · exact lk_29 (a := 1) hk rfl k (Or.inr ⟨rfl, e, e2⟩) (fun _ => hf e e2) hs
theorem lk_cell {post : Int32 → Prop} {L i : Nat} {xs : Nat → Int32} (hL : L ≤ 4) (hi : i < 4) (h : ∀ v, post v) : wpL_cellAt post L xs () (nI i) :=
  pk_le L i (fun _ => h 0) (fun z => ⟨pk_in i L z, h _⟩)
end
section
theorem i_vc (xs : Nat → Int32) (L : Nat) (hL : L ≤ 4) : wpL_law (fun r => r = 1) L xs := by
  unfold wpL_law
  exact lk_cell (i := 0) hL (by omega) (fun v0 => lk_cell (i := 1) hL (by omega) (fun v1 => lk_cell (i := 2) hL (by omega) (fun v2 => lk_cell (i := 3) hL (by omega) (fun v3 => ⟨20, 1222, by omega, by omega, lk_lawOf v0 v1 v2 v3⟩))))
end
