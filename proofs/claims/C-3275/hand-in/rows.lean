section
theorem pk_us {f : Nat → Int32} {k : Nat} {x : Int32} : upd f k x k = x := if_pos rfl
theorem pk_un {f : Nat → Int32} {k j : Nat} {x : Int32} (h : j ≠ k) : upd f k x j = f j := if_neg h
theorem pk_sub {a b : Nat} (h : b ≤ a) : nI a - nI b = nI (a - b) := by
  obtain ⟨c, rfl⟩ : ∃ c, a = c + b := ⟨a - b, by omega⟩
  rw [← nI_add, Int32.add_sub_cancel, Nat.add_sub_cancel]
theorem pk_m1 (n : Nat) : nI (n + 1) + (-1) = nI n := by
  rw [← nI_1, Int32.add_assoc, show (1 : Int32) + (-1) = 0 from rfl, Int32.add_zero]
theorem pk_mul (a b : Nat) : nI a * nI b = nI (a * b) := (Int32.ofNat_mul a b).symm
theorem pk_div {a d : Nat} (ha : a < 2 ^ 31) (h0 : 0 < d) (hd : d < 2 ^ 31) : nI a / nI d = nI (a / d) := by
  apply Int32.toInt_inj.mp
  rw [lg_idiv_nonneg (by rw [nI_toInt ha]; omega) (by rw [nI_toInt hd]; omega), nI_toInt ha, nI_toInt hd, nI_toInt (Nat.lt_of_le_of_lt (Nat.div_le_self a d) ha)]
  first | rfl | exact (Int.natCast_ediv _ _).symm
theorem pk_rem {a d : Nat} (ha : a < 2 ^ 31) (h0 : 0 < d) (hd : d < 2 ^ 31) : nI a - nI a / nI d * nI d = nI (a % d) := by
  rw [pk_div ha h0 hd, pk_mul, pk_sub (Nat.div_mul_le_self a d)]
  exact congrArg nI (by have := Nat.div_add_mod' a d; omega)
theorem pk_sub_toInt {a b : Nat} (ha : a < 2 ^ 30) (hb : b < 2 ^ 30) : (nI a - nI b).toInt = (a : Int) - b := by
  rw [Int32.toInt_sub, nI_toInt (by omega), nI_toInt (by omega)]
  exact Int.bmod_eq_of_le (by omega) (by omega)
theorem pk_ix (x : Int32) {n : Nat} (hn : n < 2 ^ 31) : x < 0 ∨ nI n ≤ x ∨ ∃ j : Nat, j < n ∧ x = nI j := by
  by_cases h : x < 0
  · exact Or.inl h
  · obtain ⟨j, hj, rfl⟩ := nI_of h
    by_cases h2 : j < n
    · exact Or.inr (Or.inr ⟨j, h2, rfl⟩)
    · exact Or.inr (Or.inl (nI_le (by omega) hj))
theorem pk_le {x y : Int32} {A B : Prop} (a b : Nat) (f : a ≤ b → A) (g : b < a → B) (hx : x = nI a := by rfl) (hy : y = nI b := by rfl) (ha : a < 2 ^ 31 := by omega) (hb : b < 2 ^ 31 := by omega) : (x ≤ y → A) ∧ (¬ x ≤ y → B) := by
  subst hx hy
  rw [nI_leI ha hb]
  exact ⟨f, fun z => g (by omega)⟩
theorem pk_lt {x y : Int32} {A B : Prop} (a b : Nat) (f : a < b → A) (g : b ≤ a → B) (hx : x = nI a := by rfl) (hy : y = nI b := by rfl) (ha : a < 2 ^ 31 := by omega) (hb : b < 2 ^ 31 := by omega) : (x < y → A) ∧ (¬ x < y → B) := by
  subst hx hy
  rw [nI_ltI ha hb]
  exact ⟨f, fun z => g (by omega)⟩
theorem pk_eq {x y : Int32} {A B : Prop} (a b : Nat) (f : a = b → A) (g : a ≠ b → B) (hx : x = nI a := by rfl) (hy : y = nI b := by rfl) (ha : a < 2 ^ 31 := by omega) (hb : b < 2 ^ 31 := by omega) : (x = y → A) ∧ (¬ x = y → B) := by
  subst hx hy
  rw [nI_eq ha hb]
  exact ⟨f, g⟩
theorem pk_in {x : Int32} (n N : Nat) (h : n < N) (hx : x = nI n := by rfl) (hN : N < 2 ^ 31 := by omega) : vp_in x N := by
  subst hx
  exact vp_in_nI h hN
theorem pk_cl {x : Int32} (n : Nat) (hx : x = nI n := by rfl) (h : n < 2 ^ 31 := by omega) : x.toNatClampNeg = n := by
  subst hx
  exact nI_clamp h
theorem pk_vb (z : Int32) : vp_nar .byte z.toInt8.toInt32 = z.toInt8.toInt32 := by rw [vp_nar_byte]; simp
end
section
/-! the plain game: M j is the move that arrived at cell j and one more, 0 for none -/
def rg_g (x : Nat) : Nat := if x = 3 then 0 else x
def rg_gu (M : Nat → Nat) (p : Nat) : Nat → Nat
  | 0 => 0
  | f + 1 => rg_g (if 0 < M (40 * p + f) then M (40 * p + f) - 1 else rg_gu M p f)
def rg_us (M : Nat → Nat) (p f : Nat) : Nat := if 0 < M (40 * p + f) then M (40 * p + f) - 1 else rg_gu M p f
theorem rg_gu_s (M : Nat → Nat) (p f : Nat) : rg_gu M p (f + 1) = rg_g (rg_us M p f) := rfl
theorem rg_us_y {M : Nat → Nat} {p f : Nat} (h : 0 < M (40 * p + f)) : rg_us M p f = M (40 * p + f) - 1 := if_pos h
theorem rg_us_n {M : Nat → Nat} {p f : Nat} (h : M (40 * p + f) = 0) : rg_us M p f = rg_gu M p f := if_neg (by omega)
theorem rg_g_le {x : Nat} (h : x ≤ 3) : rg_g x ≤ 2 := by
  unfold rg_g
  split <;> omega
theorem rg_g_g {x : Nat} (h : x ≤ 2) : rg_g x = x := by
  unfold rg_g
  split <;> omega
theorem rg_us_le {M : Nat → Nat} {p : Nat} (hp : p < 2) (hM : ∀ j, j < 80 → M j ≤ 4) : ∀ f, f < 40 → rg_gu M p f ≤ 2 ∧ rg_us M p f ≤ 3 := by
  intro f
  induction f with
  | zero =>
    intro hf
    have h := hM (40 * p + 0) (by omega)
    have e : rg_gu M p 0 = 0 := rfl
    refine ⟨by omega, ?_⟩
    unfold rg_us
    split <;> omega
  | succ f ih =>
    intro hf
    have h := hM (40 * p + (f + 1)) (by omega)
    have e : rg_gu M p (f + 1) ≤ 2 := by
      rw [rg_gu_s]
      exact rg_g_le (ih (by omega)).2
    refine ⟨e, ?_⟩
    unfold rg_us
    split <;> omega
theorem rg_gu_eq {M N : Nat → Nat} {p : Nat} : ∀ g, (∀ j, j < g → M (40 * p + j) = N (40 * p + j)) → rg_gu M p g = rg_gu N p g := by
  intro g
  induction g with
  | zero => intro _; rfl
  | succ g ih =>
    intro h
    have e := ih (fun j hj => h j (by omega))
    have e2 := h g (by omega)
    show rg_g (if 0 < M (40 * p + g) then M (40 * p + g) - 1 else rg_gu M p g) = rg_g (if 0 < N (40 * p + g) then N (40 * p + g) - 1 else rg_gu N p g)
    rw [e, e2]
theorem rg_us_eq {M N : Nat → Nat} {p g : Nat} (h : ∀ j, j ≤ g → M (40 * p + j) = N (40 * p + j)) : rg_us M p g = rg_us N p g := by
  unfold rg_us
  rw [rg_gu_eq g (fun j hj => h j (by omega)), h g (Nat.le_refl g)]
theorem rg_us_from {M N : Nat → Nat} {p g : Nat} (h0 : rg_us M p g = rg_us N p g) (h : ∀ j, g < j → j < 40 → M (40 * p + j) = N (40 * p + j)) : ∀ k, g + k < 40 → rg_us M p (g + k) = rg_us N p (g + k) := by
  intro k
  induction k with
  | zero => intro _; exact h0
  | succ k ih =>
    intro hk
    have e := ih (by omega)
    have e2 := h (g + k + 1) (by omega) (by omega)
    show (if 0 < M (40 * p + (g + k + 1)) then M (40 * p + (g + k + 1)) - 1 else rg_g (rg_us M p (g + k))) = (if 0 < N (40 * p + (g + k + 1)) then N (40 * p + (g + k + 1)) - 1 else rg_g (rg_us N p (g + k)))
    rw [e, e2]

/-! the field: places, points, pauses -/
abbrev rg_F : Type := Nat × Nat × Nat × Nat × Nat × Nat
def rg_wk (p q m : Nat) : Nat := if m = 1 ∧ 0 < p ∧ p - 1 ≠ q then p - 1 else if m = 2 ∧ p < 9 ∧ p + 1 ≠ q then p + 1 else p
def rg_nr (p q : Nat) : Bool := decide (p ≤ q + 1 ∧ q ≤ p + 1)
def rg_pt (q m : Nat) (nr : Bool) : Nat := if m = 3 ∧ nr = true then q - 1 else q
def rg_pa (r m : Nat) : Nat := if m = 3 then 2 else r
def rg_ef (r m : Nat) : Nat := if r = 0 then m else 0
def rg_s6 (P0 P1 q0 q1 s0 s1 e0 e1 : Nat) : rg_F := (P0, P1, rg_pt q0 e1 (rg_nr P0 P1), rg_pt q1 e0 (rg_nr P0 P1), rg_pa s0 e0, rg_pa s1 e1)
def rg_st : rg_F → Nat → Nat → rg_F
  | (p0, p1, q0, q1, r0, r1), a, b => rg_s6 (rg_wk p0 p1 (rg_ef r0 a)) (rg_wk p1 (rg_wk p0 p1 (rg_ef r0 a)) (rg_ef r1 b)) q0 q1 (r0 - 1) (r1 - 1) (rg_ef r0 a) (rg_ef r1 b)
def rg_ov : rg_F → Bool
  | (_, _, q0, q1, _, _) => decide (q0 = 0 ∨ q1 = 0)
def rg_pk : rg_F → Nat
  | (p0, p1, q0, q1, r0, r1) => p0 + 10 * p1 + 100 * q0 + 1000 * q1 + 10000 * r0 + 100000 * r1
def rg_ok : rg_F → Prop
  | (p0, p1, q0, q1, r0, r1) => p0 < 10 ∧ p1 < 10 ∧ q0 < 10 ∧ q1 < 10 ∧ r0 < 10 ∧ r1 < 10
def rg_fd : rg_F → (Nat → Int32) → (Nat → Int32) → (Nat → Int32) → Prop
  | (p0, p1, q0, q1, r0, r1), A, B, C => (A 0 = nI p0 ∧ A 1 = nI p1) ∧ (B 0 = nI q0 ∧ B 1 = nI q1) ∧ (C 0 = nI r0 ∧ C 1 = nI r1)
def rg_nx (F : rg_F) (a b : Nat) : rg_F := if rg_ov F = true then F else rg_st F a b
def rg_pl (M : Nat → Nat) : Nat → rg_F
  | 0 => (2, 7, 5, 5, 0, 0)
  | n + 1 => rg_nx (rg_pl M n) (rg_us M 0 n) (rg_us M 1 n)
theorem rg_wk_lt {p q m : Nat} (h : p < 10) : rg_wk p q m < 10 := by
  unfold rg_wk
  split
  · omega
  · split <;> omega
theorem rg_wka {p q m : Nat} (h1 : m = 1) (h : 0 < p) : (p - 1 = q → p = rg_wk p q m) ∧ (p - 1 ≠ q → p - 1 = rg_wk p q m) := by
  unfold rg_wk
  refine ⟨fun z => ?_, fun z => ?_⟩
  all_goals repeat' split
  all_goals omega
theorem rg_wkb {p q m : Nat} (h1 : m ≠ 1 ∨ p = 0) (h2 : m = 2) (h : 9 ≤ p) : p = rg_wk p q m := by
  unfold rg_wk
  repeat' split
  all_goals omega
theorem rg_wkc {p q m : Nat} (h1 : m ≠ 1 ∨ p = 0) (h2 : m = 2) (h : p < 9) : (p + 1 = q → p = rg_wk p q m) ∧ (p + 1 ≠ q → p + 1 = rg_wk p q m) := by
  unfold rg_wk
  refine ⟨fun z => ?_, fun z => ?_⟩
  all_goals repeat' split
  all_goals omega
theorem rg_wkd {p q m : Nat} (h1 : m ≠ 1 ∨ p = 0) (h2 : m ≠ 2) : p = rg_wk p q m := by
  unfold rg_wk
  repeat' split
  all_goals omega
theorem rg_pt_le (q m : Nat) (n : Bool) : rg_pt q m n ≤ q := by
  unfold rg_pt
  split <;> omega
theorem rg_pt_0 {q m : Nat} {n : Bool} (h : q = 0 ∨ m ≠ 3 ∨ n = false) : rg_pt q m n = q := by
  unfold rg_pt
  split
  · rename_i z
    rcases h with h | h | h
    · omega
    · exact absurd z.1 h
    · rw [h] at z
      exact absurd z.2 (by decide)
  · rfl
theorem rg_pt_1 {q m : Nat} {n : Bool} (h : m = 3) (hn : n = true) : rg_pt q m n = q - 1 := if_pos ⟨h, hn⟩
theorem rg_pa_lt {r m : Nat} (h : r < 10) : rg_pa r m < 10 := by
  unfold rg_pa
  split <;> omega
theorem rg_ef_lt {r m : Nat} (h : m < 4) : rg_ef r m < 4 := by
  unfold rg_ef
  split <;> omega
theorem rg_ok_st {F : rg_F} {a b : Nat} (h : rg_ok F) : rg_ok (rg_st F a b) := by
  obtain ⟨p0, p1, q0, q1, r0, r1⟩ := F
  obtain ⟨h0, h1, h2, h3, h4, h5⟩ := h
  exact And.intro (rg_wk_lt h0) (And.intro (rg_wk_lt h1) (And.intro (Nat.lt_of_le_of_lt (rg_pt_le _ _ _) h2) (And.intro (Nat.lt_of_le_of_lt (rg_pt_le _ _ _) h3) (And.intro (rg_pa_lt (by omega)) (rg_pa_lt (by omega))))))
theorem rg_ok_nx {F : rg_F} {a b : Nat} (h : rg_ok F) : rg_ok (rg_nx F a b) := by
  unfold rg_nx
  split
  · exact h
  · exact rg_ok_st h
theorem rg_ok_0 : rg_ok (2, 7, 5, 5, 0, 0) := And.intro (by decide) (And.intro (by decide) (And.intro (by decide) (And.intro (by decide) (And.intro (by decide) (by decide)))))
theorem rg_ok_pl (M : Nat → Nat) : ∀ n, rg_ok (rg_pl M n) := by
  intro n
  induction n with
  | zero => exact rg_ok_0
  | succ n ih => exact rg_ok_nx ih
theorem rg_dig {p0 p1 q0 q1 r0 r1 : Nat} (h : rg_ok (p0, p1, q0, q1, r0, r1)) : rg_pk (p0, p1, q0, q1, r0, r1) < 1000000 ∧ rg_pk (p0, p1, q0, q1, r0, r1) % 10 = p0 ∧ rg_pk (p0, p1, q0, q1, r0, r1) / 10 % 10 = p1 ∧ rg_pk (p0, p1, q0, q1, r0, r1) / 100 % 10 = q0 ∧ rg_pk (p0, p1, q0, q1, r0, r1) / 1000 % 10 = q1 ∧ rg_pk (p0, p1, q0, q1, r0, r1) / 10000 % 10 = r0 ∧ rg_pk (p0, p1, q0, q1, r0, r1) / 100000 = r1 := by
  obtain ⟨h0, h1, h2, h3, h4, h5⟩ := h
  have e : rg_pk (p0, p1, q0, q1, r0, r1) = p0 + 10 * p1 + 100 * q0 + 1000 * q1 + 10000 * r0 + 100000 * r1 := rfl
  generalize rg_pk (p0, p1, q0, q1, r0, r1) = N at e
  refine ⟨by omega, by omega, by omega, by omega, by omega, by omega, by omega⟩
theorem rg_pk_lt {F : rg_F} (h : rg_ok F) : rg_pk F < 1000000 := by
  obtain ⟨p0, p1, q0, q1, r0, r1⟩ := F
  exact (rg_dig h).1
theorem rg_pk_inj {F G : rg_F} (h : rg_ok F) (k : rg_ok G) (e : rg_pk F = rg_pk G) : F = G := by
  obtain ⟨p0, p1, q0, q1, r0, r1⟩ := F
  obtain ⟨a0, a1, b0, b1, c0, c1⟩ := G
  obtain ⟨_, h0, h1, h2, h3, h4, h5⟩ := rg_dig h
  obtain ⟨_, k0, k1, k2, k3, k4, k5⟩ := rg_dig k
  rw [e] at h0 h1 h2 h3 h4 h5
  rw [← h0, ← h1, ← h2, ← h3, ← h4, ← h5, k0, k1, k2, k3, k4, k5]
theorem rg_pl_ov {M : Nat → Nat} {g : Nat} (h : rg_ov (rg_pl M g) = true) : ∀ k, rg_pl M (g + k) = rg_pl M g := by
  intro k
  induction k with
  | zero => rfl
  | succ k ih =>
    show rg_nx (rg_pl M (g + k)) (rg_us M 0 (g + k)) (rg_us M 1 (g + k)) = _
    rw [ih]
    exact if_pos h
theorem rg_pl_n {M : Nat → Nat} {g : Nat} (h : rg_ov (rg_pl M g) = false) : rg_pl M (g + 1) = rg_st (rg_pl M g) (rg_us M 0 g) (rg_us M 1 g) := by
  show rg_nx (rg_pl M g) (rg_us M 0 g) (rg_us M 1 g) = _
  unfold rg_nx
  rw [h]
  exact if_neg (by decide)
theorem rg_pl_eq {M N : Nat → Nat} {g : Nat} (h : rg_pl M g = rg_pl N g) (h0 : rg_us M 0 g = rg_us N 0 g) (h1 : rg_us M 1 g = rg_us N 1 g) : rg_pl M (g + 1) = rg_pl N (g + 1) := by
  show rg_nx (rg_pl M g) (rg_us M 0 g) (rg_us M 1 g) = rg_nx (rg_pl N g) (rg_us N 0 g) (rg_us N 1 g)
  rw [h, h0, h1]
theorem rg_pl_all {M N : Nat → Nat} : ∀ n, (∀ p g, p < 2 → g < n → rg_us M p g = rg_us N p g) → rg_pl M n = rg_pl N n := by
  intro n
  induction n with
  | zero => intro _; rfl
  | succ n ih =>
    intro h
    exact rg_pl_eq (ih (fun p g hp hg => h p g hp (by omega))) (h 0 n (by decide) (by omega)) (h 1 n (by decide) (by omega))

/-! counts -/
def rg_ct (g : Nat → Nat) : Nat → Nat
  | 0 => 0
  | n + 1 => rg_ct g n + g (n + 1)
theorem rg_ct_0 {g : Nat → Nat} : ∀ n, (∀ j, j ≤ n → g j = 0) → rg_ct g n = 0 := by
  intro n
  induction n with
  | zero => intro _; rfl
  | succ n ih =>
    intro h
    show rg_ct g n + g (n + 1) = 0
    rw [ih (fun j hj => h j (by omega)), h (n + 1) (Nat.le_refl _)]
theorem rg_ct_from {g : Nat → Nat} {a : Nat} : ∀ k, (∀ j, a < j → j ≤ a + k → g j = 0) → rg_ct g (a + k) = rg_ct g a := by
  intro k
  induction k with
  | zero => intro _; rfl
  | succ k ih =>
    intro h
    show rg_ct g (a + k) + g (a + k + 1) = _
    rw [ih (fun j h1 h2 => h j h1 (by omega)), h (a + k + 1) (by omega) (by omega)]
    rfl
def rg_df (S : Nat → Int32) (M : Nat → Nat) (d n : Nat) : Nat := if n ≤ d ∧ S n ≠ nI (rg_pk (rg_pl M n)) then 1 else 0
theorem rg_df_0 {S : Nat → Int32} {M : Nat → Nat} {d n : Nat} (h : d < n ∨ S n = nI (rg_pk (rg_pl M n))) : rg_df S M d n = 0 := by
  unfold rg_df
  rw [if_neg]
  intro z
  rcases h with h | h
  · have := z.1
    omega
  · exact z.2 h
theorem rg_df_1 {S : Nat → Int32} {M : Nat → Nat} {d n : Nat} (h : n ≤ d) (h2 : S n ≠ nI (rg_pk (rg_pl M n))) : rg_df S M d n = 1 := if_pos ⟨h, h2⟩
theorem rg_df_le (S : Nat → Int32) (M : Nat → Nat) (d n : Nat) : rg_df S M d n ≤ 1 := by
  unfold rg_df
  split <;> omega

/-! one more move has arrived -/
def rg_up (M : Nat → Nat) (c x : Nat) : Nat → Nat := fun j => if j = c then x else M j
theorem rg_up_s {M : Nat → Nat} {c x : Nat} : rg_up M c x c = x := if_pos rfl
theorem rg_up_n {M : Nat → Nat} {c x j : Nat} (h : j ≠ c) : rg_up M c x j = M j := if_neg h

/-! numbers -/
theorem rg_b16 : ∀ n, n < 16 → (nI n).toInt8.toInt32 = nI n := by decide +kernel
theorem rg_st8 {x : Int32} {n : Nat} (hn : n < 16) (e : x = nI n) : vp_nar .byte x.toInt8.toInt32 = nI n := by
  rw [pk_vb, e]
  exact rg_b16 n hn
theorem rg_nb2 : vp_nar .byte 2 = nI 2 := by
  rw [vp_nar_byte]
  decide
theorem rg_m1 {p : Nat} (h : 0 < p) : nI p + (-1) = nI (p - 1) := by
  obtain ⟨k, rfl⟩ : ∃ k, p = k + 1 := ⟨p - 1, by omega⟩
  exact pk_m1 k
theorem rg_p1 {p : Nat} (h : 0 < p) : nI p - 1 = nI (p - 1) := by
  obtain ⟨k, rfl⟩ : ∃ k, p = k + 1 := ⟨p - 1, by omega⟩
  exact nI_pred k
theorem rg_ix (p f : Nat) : nI p * 40 + nI f = nI (40 * p + f) := by
  rw [show (40 : Int32) = nI 40 from rfl, pk_mul, nI_add, Nat.mul_comm]
theorem rg_iy (p f : Nat) : 40 * nI p + nI f = nI (40 * p + f) := by
  rw [show (40 : Int32) = nI 40 from rfl, pk_mul, nI_add]
theorem rg_i4 (f : Nat) : 40 + nI f = nI (40 + f) := by
  rw [show (40 : Int32) = nI 40 from rfl, nI_add]
theorem rg_pkI (a b c d e g : Nat) : (((((nI a + 10 * nI b) + 100 * nI c) + 1000 * nI d) + 10000 * nI e) + 100000 * nI g) = nI (a + 10 * b + 100 * c + 1000 * d + 10000 * e + 100000 * g) := by
  rw [show (10 : Int32) = nI 10 from rfl, show (100 : Int32) = nI 100 from rfl, show (1000 : Int32) = nI 1000 from rfl, show (10000 : Int32) = nI 10000 from rfl, show (100000 : Int32) = nI 100000 from rfl]
  simp only [pk_mul, nI_add]
theorem rg_dg {N d q : Nat} (hN : N < 1000000) (h0 : 0 < d) (hd : d < 2 ^ 31) (e : N / d % 10 = q) : nI N / nI d - nI N / nI d / 10 * 10 = nI q := by
  have h2 := Nat.div_le_self N d
  rw [pk_div (by omega) h0 hd, show (10 : Int32) = nI 10 from rfl, pk_rem (by omega) (by decide) (by decide), e]
theorem rg_near {a b : Nat} (ha : a < 10) (hb : b < 10) : (nI a - nI b < -1 ↔ a + 1 < b) ∧ (1 < nI a - nI b ↔ b + 1 < a) := by
  constructor
  · rw [Int32.lt_iff_toInt_lt, pk_sub_toInt (by omega) (by omega), show (-1 : Int32).toInt = -1 from by decide]
    omega
  · rw [Int32.lt_iff_toInt_lt, pk_sub_toInt (by omega) (by omega), show (1 : Int32).toInt = 1 from by decide]
    omega
def rg_mv (x : Int32) (m : Nat) : Prop := (x = 1 ↔ m = 1) ∧ (x = 2 ↔ m = 2) ∧ (x = 3 ↔ m = 3)
theorem rg_mvn {a : Nat} (h : a < 4) : rg_mv (nI a) a := And.intro (nI_eq (b := 1) (by omega) (by decide)) (And.intro (nI_eq (b := 2) (by omega) (by decide)) (nI_eq (b := 3) (by omega) (by decide)))
theorem rg_mvm : rg_mv (-1) 0 := by
  unfold rg_mv
  decide
theorem rg_in00 : vp_in (0 : Int32) 2 := vp_in_iff.mpr (by decide)
theorem rg_in01 : vp_in (1 : Int32) 2 := vp_in_iff.mpr (by decide)
theorem rg_in10 : vp_in ((1 : Int32) - 0) 2 := vp_in_iff.mpr (by decide)
theorem rg_in11 : vp_in ((1 : Int32) - 1) 2 := vp_in_iff.mpr (by decide)
theorem rg_cl0 : (0 : Int32).toNatClampNeg = 0 := by decide
theorem rg_cl1 : (1 : Int32).toNatClampNeg = 1 := by decide
theorem rg_cl10 : ((1 : Int32) - 0).toNatClampNeg = 1 := by decide
theorem rg_cl11 : ((1 : Int32) - 1).toNatClampNeg = 0 := by decide
end
section
/-! X: one frame -/
section
variable {f : Int32} {ar us sv pl po pa : Nat → Int32}
theorem rx_over {post : Int32 → Prop} {F : rg_F} (h : rg_ok F) (K1 : rg_ov F = true → post 1) (K0 : rg_ov F = false → post 0) : wpX_isOver post (nI (rg_pk F)) := by
  obtain ⟨p0, p1, q0, q1, r0, r1⟩ := F
  obtain ⟨hN, d0, d1, d2, d3, d4, d5⟩ := rg_dig h
  have h2 : q0 < 10 := h.2.2.1
  have h3 : q1 < 10 := h.2.2.2.1
  unfold wpX_isOver
  have eA : nI (rg_pk (p0, p1, q0, q1, r0, r1)) / 100 - nI (rg_pk (p0, p1, q0, q1, r0, r1)) / 100 / 10 * 10 = nI q0 := rg_dg (d := 100) hN (by decide) (by decide) d2
  have eB : nI (rg_pk (p0, p1, q0, q1, r0, r1)) / 1000 - nI (rg_pk (p0, p1, q0, q1, r0, r1)) / 1000 / 10 * 10 = nI q1 := rg_dg (d := 1000) hN (by decide) (by decide) d3
  rw [eA, eB]
  refine ⟨by decide, by decide, pk_eq q0 0 (fun h => K1 ?_) (fun h => ⟨by decide, by decide, pk_eq q1 0 (fun h' => K1 ?_) (fun h' => K0 ?_)⟩)⟩
  · show decide (q0 = 0 ∨ q1 = 0) = true
    exact decide_eq_true (Or.inl h)
  · show decide (q0 = 0 ∨ q1 = 0) = true
    exact decide_eq_true (Or.inr h')
  · show decide (q0 = 0 ∨ q1 = 0) = false
    exact decide_eq_false (fun z => z.elim h h')
theorem rx_load {post : SX → Prop} {F : rg_F} (h : rg_ok F) (K : ∀ A B C, rg_fd F A B C → post (f, ar, us, sv, A, B, C)) : wpX_load post (f, ar, us, sv, pl, po, pa) (nI (rg_pk F)) := by
  obtain ⟨p0, p1, q0, q1, r0, r1⟩ := F
  obtain ⟨hN, d0, d1, d2, d3, d4, d5⟩ := rg_dig h
  obtain ⟨h0, h1, h2, h3, h4, h5⟩ := h
  unfold wpX_load
  dsimp only
  have e0 : nI (rg_pk (p0, p1, q0, q1, r0, r1)) - nI (rg_pk (p0, p1, q0, q1, r0, r1)) / 10 * 10 = nI p0 := (pk_rem (d := 10) (by omega) (by decide) (by decide)).trans (congrArg nI d0)
  have e1 : nI (rg_pk (p0, p1, q0, q1, r0, r1)) / 10 - nI (rg_pk (p0, p1, q0, q1, r0, r1)) / 10 / 10 * 10 = nI p1 := rg_dg (d := 10) hN (by decide) (by decide) d1
  have e2 : nI (rg_pk (p0, p1, q0, q1, r0, r1)) / 100 - nI (rg_pk (p0, p1, q0, q1, r0, r1)) / 100 / 10 * 10 = nI q0 := rg_dg (d := 100) hN (by decide) (by decide) d2
  have e3 : nI (rg_pk (p0, p1, q0, q1, r0, r1)) / 1000 - nI (rg_pk (p0, p1, q0, q1, r0, r1)) / 1000 / 10 * 10 = nI q1 := rg_dg (d := 1000) hN (by decide) (by decide) d3
  have e4 : nI (rg_pk (p0, p1, q0, q1, r0, r1)) / 10000 - nI (rg_pk (p0, p1, q0, q1, r0, r1)) / 10000 / 10 * 10 = nI r0 := rg_dg (d := 10000) hN (by decide) (by decide) d4
  have e5 : nI (rg_pk (p0, p1, q0, q1, r0, r1)) / 100000 = nI r1 := (pk_div (d := 100000) (by omega) (by decide) (by decide)).trans (congrArg nI d5)
  rw [e0, e1, e2, e3, e4, e5]
  refine ⟨by decide, fun A1 eA1 => ⟨by decide, by decide, fun A2 eA2 => ⟨by decide, by decide, fun B1 eB1 => ⟨by decide, by decide, fun B2 eB2 => ⟨by decide, by decide, fun C1 eC1 => ⟨by decide, fun C2 eC2 => ?_⟩⟩⟩⟩⟩⟩
  refine K A2 B2 C2 (And.intro (And.intro ?_ ?_) (And.intro (And.intro ?_ ?_) (And.intro ?_ ?_)))
  · rw [eA2, pk_un (by decide), eA1, pk_us]
    exact rg_st8 (by omega) rfl
  · rw [eA2, pk_us]
    exact rg_st8 (by omega) rfl
  · rw [eB2, pk_un (by decide), eB1, pk_us]
    exact rg_st8 (by omega) rfl
  · rw [eB2, pk_us]
    exact rg_st8 (by omega) rfl
  · rw [eC2, pk_un (by decide), eC1, pk_us]
    exact rg_st8 (by omega) rfl
  · rw [eC2, pk_us]
    exact rg_st8 (by omega) rfl
theorem rx_go36 {post : SX → Prop} {i : Int32} {c o t q : Nat} (hi : vp_in i 2) (ho : vp_in (1 - i) 2) (hc : i.toNatClampNeg = c) (hq : (1 - i).toNatClampNeg = o) (hco : o ≠ c) (ht : t < 16) (hqb : q < 16) (eq : pl o = nI q)
    (K : ∀ A : Nat → Int32, (t = q → A c = pl c) → (t ≠ q → A c = nI t) → A o = pl o → post (f, ar, us, sv, A, po, pa)) : wX_go_36 post i (nI t) f ar us sv pl po pa := by
  unfold wX_go_36
  rw [hc, hq, eq]
  exact ⟨ho, pk_eq t q (fun h => K pl (fun _ => rfl) (fun h' => absurd h h') rfl) (fun h => ⟨hi, fun A eA => K A (fun h' => absurd h' h) (fun _ => by rw [eA, pk_us]; exact rg_st8 ht rfl) (by rw [eA, pk_un hco])⟩)⟩
theorem rx_go {post : SX → Prop} {i x : Int32} {c o p q m : Nat} (hi : vp_in i 2) (ho : vp_in (1 - i) 2) (hc : i.toNatClampNeg = c) (hq : (1 - i).toNatClampNeg = o) (hco : o ≠ c) (hp : p < 10) (hqb : q < 10) (ep : pl c = nI p) (eq : pl o = nI q) (hm : rg_mv x m)
    (K : ∀ A : Nat → Int32, A c = nI (rg_wk p q m) → A o = nI q → post (f, ar, us, sv, A, po, pa)) : wpX_go post (f, ar, us, sv, pl, po, pa) i x := by
  have G : ∀ t : Nat, t < 16 → (t = q → p = rg_wk p q m) → (t ≠ q → t = rg_wk p q m) → wX_go_36 post i (nI t) f ar us sv pl po pa := by
    intro t ht g1 g2
    refine rx_go36 hi ho hc hq hco ht (by omega) eq (fun A k1 k2 k3 => K A ?_ (k3.trans eq))
    by_cases h : t = q
    · rw [k1 h, ep]
      exact congrArg nI (g1 h)
    · rw [k2 h]
      exact congrArg nI (g2 h)
  have E : m ≠ 1 ∨ p = 0 → wX_go_22 post i x (nI p) f ar us sv pl po pa := by
    intro h1
    unfold wX_go_22
    refine br_c (fun h2 => ?_) (fun h2 => ?_)
    · have hm2 : m = 2 := hm.2.1.mp h2
      refine pk_le 9 p (fun h => ?_) (fun h z ez => ?_)
      · have e := rg_wkb (q := q) h1 hm2 h
        exact G p (by omega) (fun _ => e) (fun _ => e)
      · have e := rg_wkc (q := q) h1 hm2 h
        rw [ez, nI_1]
        exact G (p + 1) (by omega) e.1 e.2
    · have e := rg_wkd (q := q) h1 (fun h => h2 (hm.2.1.mpr h))
      exact G p (by omega) (fun _ => e) (fun _ => e)
  unfold wpX_go
  dsimp only
  rw [hc, ep]
  refine ⟨hi, fun y ey => ?_⟩
  subst ey
  refine br_c (fun h1 => pk_le p 0 (fun h => E (Or.inr (by omega))) (fun h z ez => ?_)) (fun h1 => E (Or.inl (fun h => h1 (hm.1.mpr h))))
  have e := rg_wka (q := q) (hm.1.mp h1) h
  rw [ez, rg_m1 h]
  exact G (p - 1) (by omega) e.1 e.2
theorem rx_strike {post : SX → Prop} {i x z : Int32} {c o q m : Nat} {nr : Bool} (hi : vp_in i 2) (ho : vp_in (1 - i) 2) (hc : i.toNatClampNeg = c) (hq : (1 - i).toNatClampNeg = o) (hco : o ≠ c) (hqb : q < 10) (eq : po o = nI q) (hm : rg_mv x m) (hz : z = 0 ↔ nr = false)
    (K : ∀ B C : Nat → Int32, B o = nI (rg_pt q m nr) → B c = po c → (∀ r, pa c = nI r → C c = nI (rg_pa r m)) → C o = pa o → post (f, ar, us, sv, pl, B, C)) : wpX_strike post (f, ar, us, sv, pl, po, pa) i x z := by
  have S : ∀ C : Nat → Int32, rg_pt q m nr = q → (∀ r, pa c = nI r → C c = nI (rg_pa r m)) → C o = pa o → wX_strike_47 post i (1 - i) f ar us sv pl po C := by
    intro C e k1 k2
    unfold wX_strike_47
    rw [hq, eq]
    refine ⟨ho, ho, fun B eB => K B C ?_ ?_ k1 k2⟩
    · rw [eB, pk_us, e]
      exact rg_st8 (by omega) rfl
    · rw [eB, pk_un (Ne.symm hco)]
  unfold wpX_strike
  dsimp only
  rw [hc, hq, eq]
  refine br_c (fun h3 => ⟨hi, fun C eC => ?_⟩) (fun h3 => ?_)
  · have hm3 : m = 3 := hm.2.2.mp h3
    have k1 : ∀ r, pa c = nI r → C c = nI (rg_pa r m) := by
      intro r _
      rw [eC, pk_us, rg_nb2]
      unfold rg_pa
      rw [if_pos hm3]
    have k2 : C o = pa o := by rw [eC, pk_un hco]
    refine br_c (fun hz0 => S C (rg_pt_0 (Or.inr (Or.inr (hz.mp hz0)))) k1 k2) (fun hz0 => ⟨ho, pk_le q 0 (fun h => S C (rg_pt_0 (Or.inl (by omega))) k1 k2) (fun h => ⟨ho, ho, fun B eB => K B C ?_ ?_ k1 k2⟩)⟩)
    · have hn : nr = true := by
        cases nr
        · exact absurd (hz.mpr rfl) hz0
        · rfl
      rw [eB, pk_us, rg_pt_1 hm3 hn]
      exact rg_st8 (by omega) (rg_p1 h)
    · rw [eB, pk_un (Ne.symm hco)]
  · have hm3 : m ≠ 3 := fun h => h3 (hm.2.2.mpr h)
    refine K po pa ?_ rfl ?_ rfl
    · rw [rg_pt_0 (Or.inr (Or.inl hm3)), eq]
    · intro r hr
      unfold rg_pa
      rw [if_neg hm3, hr]
theorem rx_148 {post : Int32 → SX → Prop} {x4 x5 z0 : Int32} {p0 p1 q0 q1 s0 s1 e0 e1 : Nat} {nr : Bool} (h0 : q0 < 10) (h1 : q1 < 10) (fd : rg_fd (p0, p1, q0, q1, s0, s1) pl po pa) (m0 : rg_mv x4 e0) (m1 : rg_mv x5 e1) (hz : z0 = 0 ↔ nr = false)
    (K : ∀ B C, post (nI (p0 + 10 * p1 + 100 * rg_pt q0 e1 nr + 1000 * rg_pt q1 e0 nr + 10000 * rg_pa s0 e0 + 100000 * rg_pa s1 e1)) (f, ar, us, sv, pl, B, C)) : wX_step_148 post x4 x5 z0 f ar us sv pl po pa := by
  obtain ⟨⟨a0, a1⟩, ⟨b0, b1⟩, ⟨c0, c1⟩⟩ := fd
  unfold wX_step_148
  refine rx_strike (c := 0) (o := 1) (q := q1) (m := e0) (nr := nr) rg_in00 rg_in10 rg_cl0 rg_cl10 (by decide) h1 b1 m0 hz (fun B C k1 k0 l0 l1 => ?_)
  dsimp only
  refine rx_strike (c := 1) (o := 0) (q := q0) (m := e1) (nr := nr) rg_in01 rg_in11 rg_cl1 rg_cl11 (by decide) h0 (k0.trans b0) m1 hz (fun B' C' k0' k1' l1' l0' => ?_)
  dsimp only
  unfold wpX_pack
  dsimp only
  rw [a0, a1, k0', k1', k1, l0', l0 s0 c0, l1' s1 (l1.trans c1), rg_pkI]
  exact K B' C'
theorem rx_100 {post : Int32 → SX → Prop} {x4 x5 : Int32} {p0 p1 q0 q1 s0 s1 e0 e1 : Nat} (hp0 : p0 < 10) (hp1 : p1 < 10) (h0 : q0 < 10) (h1 : q1 < 10) (hs : s1 < 10) (a0 : pl 0 = nI p0) (a1 : pl 1 = nI p1) (b0 : po 0 = nI q0) (b1 : po 1 = nI q1) (c0 : pa 0 = nI s0) (m0 : rg_mv x4 e0) (m1 : rg_mv x5 e1)
    (K : ∀ A B C, post (nI (rg_pk (rg_s6 (rg_wk p0 p1 e0) (rg_wk p1 (rg_wk p0 p1 e0) e1) q0 q1 s0 s1 e0 e1))) (f, ar, us, sv, A, B, C)) : wX_step_100 post x4 x5 (nI s1) 1 f ar us sv pl po pa := by
  unfold wX_step_100
  refine ⟨rg_in01, fun C eC => ?_⟩
  rw [rg_cl1] at eC
  have k0 : C 0 = nI s0 := by rw [eC, pk_un (by decide), c0]
  have k1 : C 1 = nI s1 := by
    rw [eC, pk_us]
    exact rg_st8 (by omega) rfl
  have w0 : rg_wk p0 p1 e0 < 10 := rg_wk_lt hp0
  have w1 : rg_wk p1 (rg_wk p0 p1 e0) e1 < 10 := rg_wk_lt hp1
  refine rx_go (c := 0) (o := 1) (p := p0) (q := p1) (m := e0) rg_in00 rg_in10 rg_cl0 rg_cl10 (by decide) hp0 hp1 a0 a1 m0 (fun A g0 g1 => ?_)
  dsimp only
  refine rx_go (c := 1) (o := 0) (p := p1) (q := rg_wk p0 p1 e0) (m := e1) rg_in01 rg_in11 rg_cl1 rg_cl11 (by decide) hp1 w0 g1 g0 m1 (fun A' g1' g0' => ?_)
  dsimp only
  generalize rg_wk p0 p1 e0 = P0 at *
  generalize rg_wk p1 P0 e1 = P1 at *
  have N := rg_near w0 w1
  have fd : rg_fd (P0, P1, q0, q1, s0, s1) A' po C := And.intro (And.intro g0' g1') (And.intro (And.intro b0 b1) (And.intro k0 k1))
  intro y ey
  rw [g0', g1'] at ey
  subst ey
  have T : ∀ z0 : Int32, (z0 = 0 ↔ rg_nr P0 P1 = false) → wX_step_148 post x4 x5 z0 f ar us sv A' po C := fun z0 hz => rx_148 h0 h1 fd m0 m1 hz (fun B C => K A' B C)
  have Z : ∀ h : rg_nr P0 P1 = false, wX_step_147 post x4 x5 f ar us sv A' po C := by
    intro h
    unfold wX_step_147
    exact T 0 ⟨fun _ => h, fun _ => rfl⟩
  refine br_c (fun h => Z ?_) (fun h => br_c (fun h' => Z ?_) (fun h' => T 1 ?_))
  · have := N.1.mp h
    unfold rg_nr
    exact decide_eq_false (by omega)
  · have := N.2.mp h'
    unfold rg_nr
    exact decide_eq_false (by omega)
  · rw [N.1] at h
    rw [N.2] at h'
    have e : rg_nr P0 P1 = true := by
      unfold rg_nr
      exact decide_eq_true (by omega)
    rw [e]
    exact ⟨fun z => absurd z (by decide), fun z => absurd z (by decide)⟩
theorem rx_72 {post : Int32 → SX → Prop} {x4 x5 : Int32} {p0 p1 q0 q1 r1 s0 e0 e1 : Nat} (hp0 : p0 < 10) (hp1 : p1 < 10) (h0 : q0 < 10) (h1 : q1 < 10) (hs : s0 < 10) (hr : r1 < 10) (a0 : pl 0 = nI p0) (a1 : pl 1 = nI p1) (b0 : po 0 = nI q0) (b1 : po 1 = nI q1) (c1 : pa 1 = nI r1) (m0 : rg_mv x4 e0) (m1 : rg_mv x5 e1)
    (K : ∀ A B C, post (nI (rg_pk (rg_s6 (rg_wk p0 p1 e0) (rg_wk p1 (rg_wk p0 p1 e0) e1) q0 q1 s0 (r1 - 1) e0 e1))) (f, ar, us, sv, A, B, C)) : wX_step_72 post x4 x5 (nI s0) 0 f ar us sv pl po pa := by
  unfold wX_step_72
  refine ⟨rg_in00, fun C eC => ?_⟩
  rw [rg_cl0] at eC
  have k0 : C 0 = nI s0 := by
    rw [eC, pk_us]
    exact rg_st8 (by omega) rfl
  have k1 : C 1 = nI r1 := by rw [eC, pk_un (by decide), c1]
  have T : wX_step_100 post x4 x5 (nI (r1 - 1)) 1 f ar us sv pl po C := rx_100 hp0 hp1 h0 h1 (by omega) a0 a1 b0 b1 k0 m0 m1 K
  rw [k1]
  refine pk_le r1 0 (fun h => ?_) (fun h => ?_)
  · have e : r1 - 1 = 0 := by omega
    rw [e] at T
    exact T
  · rw [rg_p1 h]
    exact T
theorem rx_44 {post : Int32 → SX → Prop} {x4 x5 : Int32} {p0 p1 q0 q1 r0 r1 e0 e1 : Nat} (ok : rg_ok (p0, p1, q0, q1, r0, r1)) (fd : rg_fd (p0, p1, q0, q1, r0, r1) pl po pa) (m0 : rg_mv x4 e0) (m1 : rg_mv x5 e1)
    (K : ∀ A B C, post (nI (rg_pk (rg_s6 (rg_wk p0 p1 e0) (rg_wk p1 (rg_wk p0 p1 e0) e1) q0 q1 (r0 - 1) (r1 - 1) e0 e1))) (f, ar, us, sv, A, B, C)) : wX_step_44 post x4 x5 f ar us sv pl po pa := by
  obtain ⟨h0, h1, h2, h3, h4, h5⟩ := ok
  obtain ⟨⟨a0, a1⟩, ⟨b0, b1⟩, ⟨c0, c1⟩⟩ := fd
  have T : wX_step_72 post x4 x5 (nI (r0 - 1)) 0 f ar us sv pl po pa := rx_72 h0 h1 h2 h3 (by omega) h5 a0 a1 b0 b1 c1 m0 m1 K
  unfold wX_step_44
  rw [c0]
  refine pk_le r0 0 (fun h => ?_) (fun h => ?_)
  · have e : r0 - 1 = 0 := by omega
    rw [e] at T
    exact T
  · rw [rg_p1 h]
    exact T
theorem rx_28 {post : Int32 → SX → Prop} {x4 : Int32} {p0 p1 q0 q1 r0 r1 e0 b : Nat} (hb : b < 4) (ok : rg_ok (p0, p1, q0, q1, r0, r1)) (fd : rg_fd (p0, p1, q0, q1, r0, r1) pl po pa) (m0 : rg_mv x4 e0)
    (K : ∀ A B C, post (nI (rg_pk (rg_s6 (rg_wk p0 p1 e0) (rg_wk p1 (rg_wk p0 p1 e0) (rg_ef r1 b)) q0 q1 (r0 - 1) (r1 - 1) e0 (rg_ef r1 b)))) (f, ar, us, sv, A, B, C)) : wX_step_28 post (nI b) x4 f ar us sv pl po pa := by
  have T : ∀ x5 : Int32, rg_mv x5 (rg_ef r1 b) → wX_step_44 post x4 x5 f ar us sv pl po pa := fun x5 m1 => rx_44 ok fd m0 m1 K
  have h5 : r1 < 10 := ok.2.2.2.2.2
  unfold wX_step_28
  rw [fd.2.2.2]
  refine pk_le r1 0 (fun h => T _ ?_) (fun h => T _ ?_)
  · unfold rg_ef
    rw [if_pos (by omega)]
    exact rg_mvn hb
  · unfold rg_ef
    rw [if_neg (by omega)]
    exact rg_mvm
theorem rx_step {post : Int32 → SX → Prop} {F : rg_F} {a b : Nat} (ok : rg_ok F) (ha : a < 4) (hb : b < 4) (K : ∀ A B C, post (nI (rg_pk (rg_nx F a b))) (f, ar, us, sv, A, B, C)) : wpX_step post (f, ar, us, sv, pl, po, pa) (nI (rg_pk F)) (nI a) (nI b) := by
  unfold wpX_step
  dsimp only
  refine rx_over ok (fun h => ?_) (fun h => ?_)
  · refine br_f (by decide) ?_
    unfold rg_nx at K
    rw [if_pos h] at K
    exact K pl po pa
  · refine br_t rfl ?_
    unfold rg_nx at K
    rw [h, if_neg (by decide)] at K
    refine rx_load ok (fun A B C fd => ?_)
    dsimp only
    obtain ⟨p0, p1, q0, q1, r0, r1⟩ := F
    have T : ∀ x4 : Int32, rg_mv x4 (rg_ef r0 a) → wX_step_28 post (nI b) x4 f ar us sv A B C := fun x4 m0 => rx_28 hb ok fd m0 K
    have h4 : r0 < 10 := ok.2.2.2.2.1
    rw [fd.2.2.1]
    refine pk_le r0 0 (fun h => T _ ?_) (fun h => T _ ?_)
    · unfold rg_ef
      rw [if_pos (by omega)]
      exact rg_mvn ha
    · unfold rg_ef
      rw [if_neg (by omega)]
      exact rg_mvm
end
end
section
/-! X: its loops -/
def rg_U (M : Nat → Nat) (us : Nat → Int32) : Prop := ∀ p g, p < 2 → g < 40 → us (40 * p + g) = nI (rg_us M p g)
theorem rg_U0 {M : Nat → Nat} {us : Nat → Int32} (h : rg_U M us) {g : Nat} (hg : g < 40) : us g = nI (rg_us M 0 g) := by
  have e := h 0 g (by decide) hg
  rw [show 40 * 0 + g = g from by omega] at e
  exact e
theorem rg_U1 {M : Nat → Nat} {us : Nat → Int32} (h : rg_U M us) {g : Nat} (hg : g < 40) : us (40 + g) = nI (rg_us M 1 g) := by
  have e := h 1 g (by decide) hg
  rw [show 40 * 1 + g = 40 + g from by omega] at e
  exact e
section
variable {ar us : Nat → Int32}
theorem rx_99 {post : Int32 → SX → Prop} {J : Int32 → Int32 → Int32 → Int32 → (Nat → Int32) → (Nat → Int32) → (Nat → Int32) → (Nat → Int32) → (Nat → Int32) → (Nat → Int32) → Prop} {x2 x4 f x6 : Int32} {g e c : Nat} {sv pl po pa : Nat → Int32} (hg : g < 40)
    (K : J (nI (c + e)) x4 (nI (g + 1)) f ar us (upd sv (g + 1) x6) pl po pa) : wX_replay_99 post J x2 x4 (nI g) x6 (nI e) (nI c) f ar us sv pl po pa := by
  unfold wX_replay_99
  rw [nI_add, nI_1, nI_clamp (by omega)]
  intro x3 e3
  refine ⟨vp_in_nI (by omega) (by decide), fun sv' es x5 e5 => ?_⟩
  rw [e3, es, e5]
  exact K
theorem rx_rep {post : Int32 → SX → Prop} {M : Nat → Nat} {d t : Nat} {S : Nat → Int32} (hM : ∀ j, j < 80 → M j ≤ 4) (hd : d ≤ 40) (ht : t ≤ 40) (hU : rg_U M us)
    (hS : ∀ g, t ≤ g → g < 40 → S g = nI (rg_pk (rg_pl M g)) → S (g + 1) = nI (rg_pk (rg_pl M (g + 1))))
    (K : ∀ sv A B C, (∀ j, j ≤ 40 → sv j = nI (rg_pk (rg_pl M j))) → post (nI (rg_ct (rg_df S M d) 40)) (nI d, ar, us, sv, A, B, C)) :
    ∀ (k g : Nat) (x4 : Int32) (sv pl po pa : Nat → Int32), k + g = 40 → (∀ j, j ≤ g → sv j = nI (rg_pk (rg_pl M j))) → (∀ j, g < j → j ≤ 40 → sv j = S j) → (x4 = 0 → S g = nI (rg_pk (rg_pl M g))) →
      wX_replay_8 post (nI t) (k + 1) (nI (rg_ct (rg_df S M d) g)) x4 (nI g) (nI d) ar us sv pl po pa := by
  intro k
  induction k with
  | zero =>
    intro g x4 sv pl po pa hk h1 h2 h3
    have eg : g = 40 := by omega
    subst eg
    exact br_t (nI_le (a := 40) (b := 40) (by decide) (by decide)) (K sv pl po pa h1)
  | succ k ih =>
    intro g x4 sv pl po pa hk h1 h2 h3
    have hg : g < 40 := by omega
    have h26 : wX_replay_26 post (wX_replay_8 post (nI t) (k + 1)) (nI t) (nI (rg_ct (rg_df S M d) g)) (nI g) (nI d) ar us sv pl po pa := by
      unfold wX_replay_26
      rw [rg_i4, nI_clamp (n := g) (by omega), nI_clamp (n := 40 + g) (by omega), rg_U0 hU hg, rg_U1 hU hg, h1 g (Nat.le_refl g)]
      refine ⟨vp_in_nI (by omega) (by decide), vp_in_nI (by omega) (by decide), vp_in_nI (by omega) (by decide), ?_⟩
      have u0 := (rg_us_le (p := 0) (by decide) hM g hg).2
      have u1 := (rg_us_le (p := 1) (by decide) hM g hg).2
      refine rx_step (rg_ok_pl M g) (by omega) (by omega) (fun A B C => ?_)
      dsimp only
      have en : rg_nx (rg_pl M g) (rg_us M 0 g) (rg_us M 1 g) = rg_pl M (g + 1) := rfl
      rw [en, nI_1, nI_clamp (by omega), h2 (g + 1) (by omega) (by omega)]
      have J : ∀ (x : Int32) (e : Nat), rg_df S M d (g + 1) = e → (x = 0 → S (g + 1) = nI (rg_pk (rg_pl M (g + 1)))) → wX_replay_99 post (wX_replay_8 post (nI t) (k + 1)) (nI t) x (nI g) (nI (rg_pk (rg_pl M (g + 1)))) (nI e) (nI (rg_ct (rg_df S M d) g)) (nI d) ar us sv A B C := by
        intro x e he hx
        refine rx_99 hg ?_
        have ec : rg_ct (rg_df S M d) g + e = rg_ct (rg_df S M d) (g + 1) := by
          rw [← he]
          rfl
        rw [ec]
        refine ih (g + 1) x _ A B C (by omega) (fun j hj => ?_) (fun j hj hj' => ?_) hx
        · by_cases z : j = g + 1
          · rw [z, pk_us]
          · rw [pk_un z]
            exact h1 j (by omega)
        · rw [pk_un (by omega)]
          exact h2 j (by omega) hj'
      refine ⟨vp_in_nI (by omega) (by decide), br_c (fun h => ?_) (fun h => ?_)⟩
      · unfold wX_replay_75
        refine br_t rfl ?_
        unfold wX_replay_98
        exact J 0 0 (rg_df_0 (Or.inr h.symm)) (fun _ => h.symm)
      · unfold wX_replay_75
        rw [nI_1]
        refine br_f (by decide) (pk_lt d (g + 1) (fun h' => ?_) (fun h' => ?_))
        · unfold wX_replay_98
          exact J 1 0 (rg_df_0 (Or.inl h')) (fun z => absurd z (by decide))
        · exact J 1 1 (rg_df_1 h' (fun z => h z.symm)) (fun z => absurd z (by decide))
    refine br_f (nI_ge (b := 40) hg (by decide)) (pk_lt g t (fun _ => h26) (fun hgt => br_c (fun hx => ?_) (fun _ => h26)))
    have hall : ∀ i, g + i ≤ 40 → S (g + i) = nI (rg_pk (rg_pl M (g + i))) := by
      intro i
      induction i with
      | zero => intro _; exact h3 hx
      | succ i ihi =>
        intro hi
        exact hS (g + i) (by omega) (by omega) (ihi (by omega))
    have ec : rg_ct (rg_df S M d) 40 = rg_ct (rg_df S M d) g := by
      have e := rg_ct_from (g := rg_df S M d) (a := g) (40 - g) (fun j hj hj' => rg_df_0 (Or.inr (by
        have := hall (j - g) (by omega)
        rw [show g + (j - g) = j from by omega] at this
        exact this)))
      rw [show g + (40 - g) = 40 from by omega] at e
      exact e
    rw [← ec]
    refine K sv pl po pa (fun j hj => ?_)
    by_cases z : j ≤ g
    · exact h1 j z
    · rw [h2 j (by omega) hj]
      have := hall (j - g) (by omega)
      rw [show g + (j - g) = j from by omega] at this
      exact this
end
section
variable {f : Int32} {ar us sv pl po pa : Nat → Int32}
theorem rx_guess {post : Int32 → Prop} {p g a : Nat} (hp : p < 2) (hg : g + 1 < 40) (ha : a < 4) (e : us (40 * p + g) = nI a) (K : post (nI (rg_g a))) : wpX_guess post (f, ar, us, sv, pl, po, pa) (nI p) (nI (g + 1)) := by
  unfold wpX_guess
  dsimp only
  rw [rg_ix, rg_p1 (by omega), show 40 * p + (g + 1) - 1 = 40 * p + g from by omega, nI_clamp (by omega), e]
  refine br_f (nI_ne0 (by omega) (by omega)) ⟨vp_in_nI (by omega) (by decide), ?_⟩
  unfold wX_guess_21
  refine pk_eq a 3 (fun h => ?_) (fun h => ?_)
  · unfold rg_g at K
    rw [if_pos h] at K
    exact K
  · unfold rg_g at K
    rw [if_neg h] at K
    exact K
end
section
variable {f : Int32} {ar sv pl po pa : Nat → Int32}
theorem rx_use42 {post : Int32 → SX → Prop} {M N : Nat → Nat} {p fr : Nat} (hp : p < 2) (hM : ∀ j, j < 80 → M j ≤ 4) (hN : ∀ j, j < 80 → N j ≤ 4) (hA : ∀ j, j < 80 → ar j = if 0 < N j then 1 else 0)
    (hMN : ∀ j, j < 80 → j ≠ 40 * p + fr → N j = M j)
    (K : ∀ (us' : Nat → Int32) (t : Nat), rg_U N us' → fr ≤ t → t ≤ 40 → (∀ j, t ≤ j → j < 40 → rg_us M p j = rg_us N p j) → post (nI t) (f, ar, us', sv, pl, po, pa)) :
    ∀ (k g t : Nat) (us : Nat → Int32), k + g = 40 → fr < g → fr ≤ t → t ≤ g → (∀ j, j < g → us (40 * p + j) = nI (rg_us N p j)) → (∀ j, g ≤ j → j < 40 → us (40 * p + j) = nI (rg_us M p j)) → (∀ j, j < 40 → us (40 * (1 - p) + j) = nI (rg_us N (1 - p) j)) → (∀ j, t ≤ j → j < g → rg_us M p j = rg_us N p j) →
      wX_use_42 post (nI p) f (k + 1) (nI t) (nI g) ar us sv pl po pa := by
  have fin : ∀ us' : Nat → Int32, (∀ j, j < 40 → us' (40 * p + j) = nI (rg_us N p j)) → (∀ j, j < 40 → us' (40 * (1 - p) + j) = nI (rg_us N (1 - p) j)) → rg_U N us' := by
    intro us' k1 k2 q j hq hj
    by_cases z : q = p
    · rw [z]
      exact k1 j hj
    · have e : q = 1 - p := by omega
      rw [e]
      exact k2 j hj
  intro k
  induction k with
  | zero =>
    intro g t us hk h0 h1 h2 h3 h4 h5 h6
    have eg : g = 40 := by omega
    subst eg
    exact br_t (nI_le (a := 40) (b := 40) (by decide) (by decide)) (K us t (fin us h3 h5) h1 h2 h6)
  | succ k ih =>
    intro g t us hk h0 h1 h2 h3 h4 h5 h6
    have hg : g < 40 := by omega
    rw [wX_use_42]
    dsimp only
    rw [rg_ix, nI_clamp (by omega), hA (40 * p + g) (by omega), h4 g (Nat.le_refl g) hg]
    refine br_f (nI_ge (b := 40) hg (by decide)) ⟨vp_in_nI (by omega) (by decide), br_c (fun h => ?_) (fun h => ?_)⟩
    · have n0 : N (40 * p + g) = 0 := by
        by_cases z : 0 < N (40 * p + g)
        · rw [if_pos z] at h
          exact absurd h (by decide)
        · omega
      obtain ⟨i, rfl⟩ : ∃ i, g = i + 1 := ⟨g - 1, by omega⟩
      have ul := (rg_us_le hp hN i (by omega)).2
      have ug := rg_us_le hp hN (i + 1) hg
      have en : rg_us N p (i + 1) = rg_g (rg_us N p i) := (rg_us_n n0).trans (rg_gu_s N p i)
      refine rx_guess hp hg (by omega) (h3 i (by omega)) ?_
      rw [← en, nI_1]
      have mb := (rg_us_le hp hM (i + 1) hg).2
      refine ⟨vp_in_nI (by omega) (by decide), pk_eq (rg_us M p (i + 1)) (rg_us N p (i + 1)) (fun hh => ?_) (fun hh => ?_)⟩
      · intro x ex
        rw [ex]
        refine ih (i + 1 + 1) t us (by omega) (by omega) h1 (by omega) (fun j hj => ?_) (fun j hj hj' => h4 j (by omega) hj') h5 (fun j hj hj' => ?_)
        · by_cases z : j = i + 1
          · rw [z, h4 (i + 1) (Nat.le_refl _) hg, hh]
          · exact h3 j (by omega)
        · by_cases z : j = i + 1
          · rw [z, hh]
          · exact h6 j hj (by omega)
      · refine ⟨vp_in_nI (by omega) (by decide), fun us' eu x ex y ey => ?_⟩
        rw [ex, ey]
        refine ih (i + 1 + 1) (i + 1 + 1) us' (by omega) (by omega) (by omega) (Nat.le_refl _) (fun j hj => ?_) (fun j hj hj' => ?_) (fun j hj => ?_) (fun j hj hj' => ?_)
        · by_cases z : j = i + 1
          · rw [z, eu, pk_us]
            exact rg_st8 (by omega) rfl
          · rw [eu, pk_un (by omega)]
            exact h3 j (by omega)
        · rw [eu, pk_un (by omega)]
          exact h4 j (by omega) hj'
        · rw [eu, pk_un (by omega)]
          exact h5 j hj
        · omega
    · have n1 : 0 < N (40 * p + g) := by
        by_cases z : 0 < N (40 * p + g)
        · exact z
        · rw [if_neg z] at h
          exact absurd rfl h
      have em : N (40 * p + g) = M (40 * p + g) := hMN _ (by omega) (by omega)
      have e0 : rg_us M p g = rg_us N p g := by rw [rg_us_y n1, rg_us_y (em ▸ n1), em]
      have e1 := rg_us_from e0 (fun j hj hj' => (hMN (40 * p + j) (by omega) (by omega)).symm)
      have e2 : ∀ j, g ≤ j → j < 40 → rg_us M p j = rg_us N p j := by
        intro j hj hj'
        have := e1 (j - g) (by omega)
        rw [show g + (j - g) = j from by omega] at this
        exact this
      refine K us t (fin us (fun j hj => ?_) h5) h1 (by omega) (fun j hj hj' => ?_)
      · by_cases z : j < g
        · exact h3 j z
        · rw [h4 j (by omega) hj, e2 j (by omega) hj]
      · by_cases z : j < g
        · exact h6 j hj z
        · exact e2 j (by omega) hj'
end
end
section
/-! X: use, replay, firstMissing, overAfter, the small ones -/
section
variable {f : Int32} {ar us sv pl po pa : Nat → Int32}
theorem rx_use {post : Int32 → SX → Prop} {M N : Nat → Nat} {p fr m : Nat} (hp : p < 2) (hfr : fr < 40) (hm : m < 4) (hM : ∀ j, j < 80 → M j ≤ 4) (hN : ∀ j, j < 80 → N j ≤ 4) (hA : ∀ j, j < 80 → ar j = if 0 < N j then 1 else 0)
    (hMN : ∀ j, j < 80 → j ≠ 40 * p + fr → N j = M j) (hc : N (40 * p + fr) = m + 1) (hU : rg_U M us)
    (K : ∀ (us' : Nat → Int32) (t : Nat), rg_U N us' → fr ≤ t → t ≤ 40 → (∀ j, t ≤ j → j < 40 → rg_us M p j = rg_us N p j) → post (nI t) (f, ar, us', sv, pl, po, pa)) :
    wpX_use post (f, ar, us, sv, pl, po, pa) (nI p) (nI fr) (nI m) := by
  have en : rg_us N p fr = m := by
    rw [rg_us_y (by omega), hc]
    omega
  have E : ∀ t : Nat, fr ≤ t → t ≤ fr + 1 → (t = fr → rg_us M p fr = m) → wX_use_26 post (nI p) (nI fr) (nI m) (nI (40 * p + fr)) (nI t) f ar us sv pl po pa := by
    intro t h1 h2 h3
    unfold wX_use_26
    rw [nI_clamp (by omega), nI_1]
    refine ⟨vp_in_nI (by omega) (by decide), fun us' eu x ex => ⟨40 - (fr + 1) + 1, ?_⟩⟩
    rw [ex]
    refine rx_use42 hp hM hN hA hMN K (40 - (fr + 1)) (fr + 1) t us' (by omega) (by omega) h1 h2 (fun j hj => ?_) (fun j hj hj' => ?_) (fun j hj => ?_) (fun j hj hj' => ?_)
    · by_cases z : j = fr
      · rw [z, eu, pk_us, en]
        exact rg_st8 (by omega) rfl
      · rw [eu, pk_un (by omega), hU p j hp (by omega)]
        exact congrArg nI (rg_us_eq (fun i hi => (hMN (40 * p + i) (by omega) (by omega)).symm))
    · rw [eu, pk_un (by omega)]
      exact hU p j hp hj'
    · rw [eu, pk_un (by omega), hU (1 - p) j (by omega) hj]
      exact congrArg nI (rg_us_eq (fun i hi => (hMN (40 * (1 - p) + i) (by omega) (by omega)).symm))
    · have e : j = fr := by omega
      rw [e, en]
      exact h3 (by omega)
  have ub := (rg_us_le hp hM fr hfr).2
  unfold wpX_use
  dsimp only
  rw [rg_ix]
  intro x ex
  rw [ex, nI_clamp (by omega), hU p fr hp hfr, nI_1]
  exact ⟨vp_in_nI (by omega) (by decide), pk_eq (rg_us M p fr) m (fun h => E fr (Nat.le_refl _) (by omega) (fun _ => h)) (fun h => E (fr + 1) (by omega) (Nat.le_refl _) (fun z => absurd z (by omega)))⟩
theorem rx_replay {post : Int32 → SX → Prop} {M : Nat → Nat} {d t g : Nat} (hM : ∀ j, j < 80 → M j ≤ 4) (hd : d ≤ 40) (ht : t ≤ 40) (hg : g ≤ 40) (hU : rg_U M us)
    (hS : ∀ n, t ≤ n → n < 40 → sv n = nI (rg_pk (rg_pl M n)) → sv (n + 1) = nI (rg_pk (rg_pl M (n + 1))))
    (h0 : ∀ j, j ≤ g → sv j = nI (rg_pk (rg_pl M j)))
    (K : ∀ sv' A B C, (∀ j, j ≤ 40 → sv' j = nI (rg_pk (rg_pl M j))) → post (nI (rg_ct (rg_df sv M d) 40)) (nI d, ar, us, sv', A, B, C)) :
    wpX_replay post (nI d, ar, us, sv, pl, po, pa) (nI g) (nI t) := by
  unfold wpX_replay
  dsimp only
  refine ⟨40 - g + 1, ?_⟩
  have r := rx_rep (ar := ar) (S := sv) hM hd ht hU hS K (40 - g) g 1 sv pl po pa (by omega) h0 (fun j _ _ => rfl) (fun z => absurd z (by decide))
  rw [rg_ct_0 g (fun j hj => rg_df_0 (Or.inr (h0 j hj)))] at r
  exact r
theorem rx_p1 {post : Int32 → Prop} {p : Nat} (hp : p < 2) (K : post 1) : wpX_isPlayer post (nI p) := by
  unfold wpX_isPlayer
  exact pk_eq p 0 (fun _ => K) (fun h => pk_eq p 1 (fun _ => K) (fun h' => absurd hp (by omega)))
theorem rx_p0 {post : Int32 → Prop} {x : Int32} (h0 : ¬ x = 0) (h1 : ¬ x = 1) (K : post 0) : wpX_isPlayer post x := by
  unfold wpX_isPlayer
  exact br_f h0 (br_f h1 K)
theorem rx_f1 {post : Int32 → Prop} {g : Nat} (hg : g < 40) (K : post 1) : wpX_isFrame post (nI g) := by
  unfold wpX_isFrame
  exact br_f (nI_pos (by omega)) (br_f (nI_ge (b := 40) hg (by decide)) K)
theorem rx_f0 {post : Int32 → Prop} {x : Int32} (h : x < 0 ∨ nI 40 ≤ x) (K : post 0) : wpX_isFrame post x := by
  unfold wpX_isFrame
  refine br_c (fun _ => K) (fun h0 => br_t ?_ K)
  rcases h with h | h
  · exact absurd h h0
  · exact h
theorem rx_fm2 {post : Int32 → Prop} {M : Nat → Nat} {p : Nat} (hp : p < 2) (hA : ∀ j, j < 80 → ar j = if 0 < M j then 1 else 0)
    (K : ∀ a, a ≤ 40 → (∀ j, j < a → 0 < M (40 * p + j)) → (a < 40 → M (40 * p + a) = 0) → post (nI a)) :
    ∀ k g, k + g = 40 → (∀ j, j < g → 0 < M (40 * p + j)) → wX_firstMissing_2 post (nI p) f ar us sv pl po pa (k + 1) (nI g) := by
  intro k
  induction k with
  | zero =>
    intro g hk h
    have eg : g = 40 := by omega
    subst eg
    exact br_t (nI_le (a := 40) (b := 40) (by decide) (by decide)) (K 40 (by decide) h (fun z => absurd z (by decide)))
  | succ k ih =>
    intro g hk h
    have hg : g < 40 := by omega
    rw [wX_firstMissing_2]
    dsimp only
    rw [rg_ix, nI_clamp (by omega), hA (40 * p + g) (by omega), nI_1]
    refine br_f (nI_ge (b := 40) hg (by decide)) ⟨vp_in_nI (by omega) (by decide), br_c (fun z => ?_) (fun z x ex => ?_)⟩
    · refine K g (by omega) h (fun _ => ?_)
      by_cases n0 : 0 < M (40 * p + g)
      · rw [if_pos n0] at z
        exact absurd z (by decide)
      · omega
    · rw [ex]
      refine ih (g + 1) (by omega) (fun j hj => ?_)
      by_cases e : j = g
      · rw [e]
        by_cases n0 : 0 < M (40 * p + g)
        · exact n0
        · rw [if_neg n0] at z
          exact absurd rfl z
      · exact h j (by omega)
theorem rx_fm {post : Int32 → Prop} {M : Nat → Nat} {p : Nat} (hp : p < 2) (hA : ∀ j, j < 80 → ar j = if 0 < M j then 1 else 0)
    (K : ∀ a, a ≤ 40 → (∀ j, j < a → 0 < M (40 * p + j)) → (a < 40 → M (40 * p + a) = 0) → post (nI a)) : wpX_firstMissing post (f, ar, us, sv, pl, po, pa) (nI p) := by
  unfold wpX_firstMissing
  dsimp only
  exact ⟨40 + 1, rx_fm2 hp hA K 40 0 rfl (fun j hj => absurd hj (by omega))⟩
end
def rg_su (M : Nat → Nat) (n : Nat) : Prop := n ≤ 40 ∧ (∀ j, j < n → 0 < M j ∧ 0 < M (40 + j)) ∧ (n < 40 → M n = 0 ∨ M (40 + n) = 0)
theorem rg_su_u {M : Nat → Nat} {a b : Nat} (h : rg_su M a) (k : rg_su M b) : a = b := by
  obtain ⟨h0, h1, h2⟩ := h
  obtain ⟨k0, k1, k2⟩ := k
  rcases Nat.lt_trichotomy a b with z | z | z
  · have e := k1 a z
    have e2 := h2 (by omega)
    omega
  · exact z
  · have e := h1 b z
    have e2 := k2 (by omega)
    omega
section
variable {f : Int32} {ar us sv pl po pa : Nat → Int32}
theorem rx_sure {post : Int32 → Prop} {M : Nat → Nat} (hA : ∀ j, j < 80 → ar j = if 0 < M j then 1 else 0) (K : ∀ n, rg_su M n → post (nI n)) : wpX_sure post (f, ar, us, sv, pl, po, pa) := by
  unfold wpX_sure
  dsimp only
  refine rx_fm (p := 0) (by decide) hA (fun a a0 a1 a2 => ?_)
  refine rx_fm (p := 1) (by decide) hA (fun b b0 b1 b2 => ?_)
  have a1' : ∀ j, j < a → 0 < M j := fun j hj => by
    have := a1 j hj
    rw [show 40 * 0 + j = j from by omega] at this
    exact this
  have a2' : a < 40 → M a = 0 := fun hj => by
    have := a2 hj
    rw [show 40 * 0 + a = a from by omega] at this
    exact this
  have b1' : ∀ j, j < b → 0 < M (40 + j) := fun j hj => b1 j hj
  have b2' : b < 40 → M (40 + b) = 0 := fun hj => b2 hj
  refine pk_le b a (fun h => K b ⟨b0, fun j hj => ⟨a1' j (by omega), b1' j hj⟩, fun hb => Or.inr (b2' hb)⟩) (fun h => K a ⟨a0, fun j hj => ⟨a1' j hj, b1' j (by omega)⟩, fun hb => Or.inl (a2' hb)⟩)
theorem rx_oa2 {post : Int32 → Prop} {M : Nat → Nat} (hS : ∀ n, n ≤ 40 → sv n = nI (rg_pk (rg_pl M n))) (K : ∀ n, n ≤ 40 → (∀ j, j < n → rg_ov (rg_pl M j) = false) → rg_ov (rg_pl M n) = true → post (nI n)) (K' : (∀ j, j < 41 → rg_ov (rg_pl M j) = false) → post (-2)) :
    ∀ k g, k + g = 41 → (∀ j, j < g → rg_ov (rg_pl M j) = false) → wX_overAfter_2 post f ar us sv pl po pa (k + 1) (nI g) := by
  intro k
  induction k with
  | zero =>
    intro g hk h
    have eg : g = 41 := by omega
    subst eg
    exact br_t (nI_lt (a := 40) (b := 41) (by decide) (by decide)) (K' h)
  | succ k ih =>
    intro g hk h
    rw [wX_overAfter_2]
    dsimp only
    rw [nI_clamp (by omega), hS g (by omega), nI_1]
    refine br_f (nI_nlt (a := 40) (b := g) (by omega) (by decide)) ⟨vp_in_nI (by omega) (by decide), rx_over (rg_ok_pl M g) (fun ho => br_f (by decide) (K g (by omega) h ho)) (fun ho => br_t rfl (fun x ex => ?_))⟩
    rw [ex]
    refine ih (g + 1) (by omega) (fun j hj => ?_)
    by_cases e : j = g
    · rw [e]
      exact ho
    · exact h j (by omega)
theorem rx_oa {post : Int32 → Prop} {M : Nat → Nat} (hS : ∀ n, n ≤ 40 → sv n = nI (rg_pk (rg_pl M n))) (K : ∀ n, n ≤ 40 → (∀ j, j < n → rg_ov (rg_pl M j) = false) → rg_ov (rg_pl M n) = true → post (nI n)) (K' : (∀ j, j < 41 → rg_ov (rg_pl M j) = false) → post (-2)) : wpX_overAfter post (f, ar, us, sv, pl, po, pa) := by
  unfold wpX_overAfter
  dsimp only
  exact ⟨41 + 1, rx_oa2 hS K K' 41 0 rfl (fun j hj => absurd hj (by omega))⟩
end
end
section
/-! Y: one frame, one play -/
section
variable {f : Int32} {mv pl po pa bf : Nat → Int32}
theorem ry_used32 {post : Int32 → Prop} {M : Nat → Nat} {p : Nat} (hp : p < 2) (hM : ∀ j, j < 80 → M j ≤ 4) (hV : ∀ j, j < 80 → mv j = nI (M j)) :
    ∀ k, k ≤ 40 → post (nI (rg_gu M p k)) → wY_used_32 post (nI p) f mv pl po pa bf (k + 1) (nI k - 1) := by
  intro k
  induction k with
  | zero =>
    intro _ K
    exact br_t (by decide) K
  | succ k ih =>
    intro hk K
    have hm := hM (40 * p + k) (by omega)
    rw [wY_used_32]
    dsimp only
    rw [nI_pred, rg_iy, nI_clamp (by omega), hV (40 * p + k) (by omega)]
    refine br_f (nI_pos (by omega)) ⟨vp_in_nI (by omega) (by decide), pk_le (M (40 * p + k)) 0 (fun h => ?_) (fun h => ⟨vp_in_nI (by omega) (by decide), ?_⟩)⟩
    · intro x ex
      have n0 : M (40 * p + k) = 0 := by omega
      rw [ex, ← Int32.sub_eq_add_neg]
      refine ih (by omega) ?_
      have e : rg_gu M p (k + 1) = rg_gu M p k := by
        rw [rg_gu_s, rg_us_n n0]
        exact rg_g_g (rg_us_le hp hM k (by omega)).1
      rw [e] at K
      exact K
    · intro x ex
      rw [rg_p1 h] at ex
      rw [ex]
      have e : rg_gu M p (k + 1) = rg_g (M (40 * p + k) - 1) := by rw [rg_gu_s, rg_us_y h]
      rw [e] at K
      unfold rg_g at K
      refine pk_eq (M (40 * p + k) - 1) 3 (fun h' => ?_) (fun h' => ?_)
      · rw [if_pos h'] at K
        exact K
      · rw [if_neg h'] at K
        exact K
theorem ry_used {post : Int32 → Prop} {M : Nat → Nat} {p g : Nat} (hp : p < 2) (hg : g < 40) (hM : ∀ j, j < 80 → M j ≤ 4) (hV : ∀ j, j < 80 → mv j = nI (M j)) (K : post (nI (rg_us M p g))) : wpY_used post (f, mv, pl, po, pa, bf) (nI p) (nI g) := by
  have hm := hM (40 * p + g) (by omega)
  unfold wpY_used
  dsimp only
  rw [rg_iy, nI_clamp (by omega), hV (40 * p + g) (by omega)]
  refine ⟨vp_in_nI (by omega) (by decide), pk_le (M (40 * p + g)) 0 (fun h x ex => ⟨g + 1, ?_⟩) (fun h => ⟨vp_in_nI (by omega) (by decide), ?_⟩)⟩
  · rw [ex]
    rw [rg_us_n (by omega)] at K
    exact ry_used32 hp hM hV g (by omega) K
  · rw [rg_us_y h] at K
    rw [rg_p1 h]
    exact K
theorem ry_over {post : Int32 → Prop} {F : rg_F} (ok : rg_ok F) (fd : rg_fd F pl po pa) (K1 : rg_ov F = true → post 1) (K0 : rg_ov F = false → post 0) : wpY_over post (f, mv, pl, po, pa, bf) := by
  obtain ⟨p0, p1, q0, q1, r0, r1⟩ := F
  have h2 : q0 < 10 := ok.2.2.1
  have h3 : q1 < 10 := ok.2.2.2.1
  unfold wpY_over
  dsimp only
  rw [fd.2.1.1, fd.2.1.2]
  refine pk_eq q0 0 (fun h => K1 ?_) (fun h => pk_eq q1 0 (fun h' => K1 ?_) (fun h' => K0 ?_))
  · show decide (q0 = 0 ∨ q1 = 0) = true
    exact decide_eq_true (Or.inl h)
  · show decide (q0 = 0 ∨ q1 = 0) = true
    exact decide_eq_true (Or.inr h')
  · show decide (q0 = 0 ∨ q1 = 0) = false
    exact decide_eq_false (fun z => z.elim h h')
theorem ry_walk38 {post : SY → Prop} {i : Int32} {c o t p q : Nat} (hi : vp_in i 2) (ho : vp_in (1 - i) 2) (hc : i.toNatClampNeg = c) (hq : (1 - i).toNatClampNeg = o) (hco : o ≠ c) (ht : t < 16) (hqb : q < 16) (ep : pl c = nI p) (eq : pl o = nI q)
    (K : ∀ A : Nat → Int32, (t ≤ 9 ∧ t ≠ q → A c = nI t) → (¬ (t ≤ 9 ∧ t ≠ q) → A c = nI p) → A o = nI q → post (f, mv, A, po, pa, bf)) : wY_walk_38 post i (nI t) f mv pl po pa bf := by
  unfold wY_walk_38
  rw [hc, hq, eq, ep]
  refine br_f (nI_pos (by omega)) (pk_lt 9 t (fun h => ⟨hi, hi, fun A eA => K A (fun z => absurd z.1 (by omega)) (fun _ => ?_) ?_⟩) (fun h => ⟨ho, pk_eq t q (fun h' => ⟨hi, hi, fun A eA => K A (fun z => absurd h' z.2) (fun _ => ?_) ?_⟩) (fun h' => ⟨hi, fun A eA => K A (fun z => ?_) (fun z => absurd ⟨h, h'⟩ z) ?_⟩)⟩))
  · rw [eA, pk_us]
  · rw [eA, pk_un hco, eq]
  · rw [eA, pk_us]
  · rw [eA, pk_un hco, eq]
  · rw [eA, pk_us]
  · rw [eA, pk_un hco, eq]
theorem ry_walk {post : SY → Prop} {i x : Int32} {c o p q m : Nat} (hi : vp_in i 2) (ho : vp_in (1 - i) 2) (hc : i.toNatClampNeg = c) (hq : (1 - i).toNatClampNeg = o) (hco : o ≠ c) (hp : p < 10) (hqb : q < 10) (ep : pl c = nI p) (eq : pl o = nI q) (hm : rg_mv x m)
    (K : ∀ A : Nat → Int32, A c = nI (rg_wk p q m) → A o = nI q → post (f, mv, A, po, pa, bf)) : wpY_walk post (f, mv, pl, po, pa, bf) i x := by
  have G : ∀ t : Nat, t < 16 → (t ≤ 9 ∧ t ≠ q → t = rg_wk p q m) → (¬ (t ≤ 9 ∧ t ≠ q) → p = rg_wk p q m) → wY_walk_38 post i (nI t) f mv pl po pa bf := by
    intro t ht g1 g2
    refine ry_walk38 hi ho hc hq hco ht (by omega) ep eq (fun A k1 k2 k3 => K A ?_ k3)
    by_cases h : t ≤ 9 ∧ t ≠ q
    · rw [k1 h]
      exact congrArg nI (g1 h)
    · rw [k2 h]
      exact congrArg nI (g2 h)
  unfold wpY_walk
  dsimp only
  rw [hc]
  refine br_c (fun h1 => ⟨hi, ?_⟩) (fun h1 => br_c (fun h2 => ⟨hi, ?_⟩) (fun h2 => ⟨hi, ?_⟩))
  · have m1 : m = 1 := hm.1.mp h1
    rw [ep]
    by_cases h : 0 < p
    · have e := rg_wka (q := q) m1 h
      rw [rg_p1 h]
      exact G (p - 1) (by omega) (fun z => e.2 z.2) (fun z => e.1 (by omega))
    · have e0 : p = 0 := by omega
      subst e0
      have e := rg_wkd (p := 0) (q := q) (m := m) (Or.inr rfl) (by omega)
      unfold wY_walk_38
      rw [hc, ep]
      refine br_t (by decide) ⟨hi, hi, fun A eA => K A ?_ ?_⟩
      · rw [eA, pk_us, ← e]
      · rw [eA, pk_un hco, eq]
  · have m2 : m = 2 := hm.2.1.mp h2
    rw [ep, nI_1]
    by_cases h : p < 9
    · have e := rg_wkc (q := q) (Or.inl (by omega)) m2 h
      exact G (p + 1) (by omega) (fun z => e.2 z.2) (fun z => e.1 (by omega))
    · have e := rg_wkb (p := p) (q := q) (m := m) (Or.inl (by omega)) m2 (by omega)
      exact G (p + 1) (by omega) (fun z => absurd z.1 (by omega)) (fun _ => e)
  · have e := rg_wkd (p := p) (q := q) (m := m) (Or.inl (fun h => h1 (hm.1.mpr h))) (fun h => h2 (hm.2.1.mpr h))
    rw [ep]
    exact G p (by omega) (fun _ => e) (fun _ => e)
theorem ry_204 {post : SY → Prop} {x5 x7 : Int32} {p0 p1 q0 q1 s0 s1 e1 : Nat} {nr : Bool} (h0 : q0 < 10) (fd : rg_fd (p0, p1, q0, q1, s0, s1) pl po pa) (m1 : rg_mv x5 e1) (hz : x7 = 0 ↔ nr = false)
    (K : ∀ B C, rg_fd (p0, p1, rg_pt q0 e1 nr, q1, s0, rg_pa s1 e1) pl B C → post (f, mv, pl, B, C, bf)) : wY_step_204 post x5 x7 f mv pl po pa bf := by
  obtain ⟨⟨a0, a1⟩, ⟨b0, b1⟩, ⟨c0, c1⟩⟩ := fd
  unfold wY_step_204
  rw [b0]
  have D : ∀ B C : Nat → Int32, e1 = 3 → C = upd pa 1 2 → ∀ q, rg_pt q0 e1 nr = q → B = upd po 0 (nI q) → post (f, mv, pl, B, C, bf) := by
    intro B C h3 eC q eq eB
    refine K B C (And.intro (And.intro a0 a1) (And.intro (And.intro ?_ ?_) (And.intro ?_ ?_)))
    · rw [eB, pk_us, eq]
    · rw [eB, pk_un (by decide), b1]
    · rw [eC, pk_un (by decide), c0]
    · rw [eC, pk_us]
      unfold rg_pa
      rw [if_pos h3]
      rfl
  refine br_c (fun h3 C eC => br_c (fun hz0 B eB => ?_) (fun hz0 => pk_le q0 0 (fun h B eB => ?_) (fun h B eB => ?_))) (fun h3 => ?_)
  · exact D B C (m1.2.2.mp h3) eC q0 (rg_pt_0 (Or.inr (Or.inr (hz.mp hz0)))) eB
  · exact D B C (m1.2.2.mp h3) eC q0 (rg_pt_0 (Or.inl (by omega))) eB
  · have hn : nr = true := by
      cases nr
      · exact absurd (hz.mpr rfl) hz0
      · rfl
    rw [rg_p1 h] at eB
    exact D B C (m1.2.2.mp h3) eC (q0 - 1) (rg_pt_1 (m1.2.2.mp h3) hn) eB
  · have hm3 : e1 ≠ 3 := fun h => h3 (m1.2.2.mpr h)
    refine K po pa (And.intro (And.intro a0 a1) (And.intro (And.intro ?_ b1) (And.intro c0 ?_)))
    · rw [rg_pt_0 (Or.inr (Or.inl hm3)), b0]
    · unfold rg_pa
      rw [if_neg hm3, c1]
theorem ry_152 {post : SY → Prop} {x4 x5 z0 : Int32} {p0 p1 q0 q1 s0 s1 e0 e1 : Nat} {nr : Bool} (h0 : q0 < 10) (h1 : q1 < 10) (fd : rg_fd (p0, p1, q0, q1, s0, s1) pl po pa) (m0 : rg_mv x4 e0) (m1 : rg_mv x5 e1) (hz : z0 = 0 ↔ nr = false)
    (K : ∀ B C, rg_fd (p0, p1, rg_pt q0 e1 nr, rg_pt q1 e0 nr, rg_pa s0 e0, rg_pa s1 e1) pl B C → post (f, mv, pl, B, C, bf)) : wY_step_152 post x4 x5 z0 f mv pl po pa bf := by
  obtain ⟨⟨a0, a1⟩, ⟨b0, b1⟩, ⟨c0, c1⟩⟩ := fd
  have D : ∀ C : Nat → Int32, e0 = 3 → C = upd pa 0 2 → ∀ q, rg_pt q1 e0 nr = q → wY_step_203 post x5 z0 (nI q) 1 f mv pl po C bf := by
    intro C h3 eC q eq
    unfold wY_step_203
    rw [rg_cl1]
    refine ⟨rg_in01, fun B eB => ry_204 (p0 := p0) (p1 := p1) (q0 := q0) (q1 := rg_pt q1 e0 nr) (s0 := rg_pa s0 e0) (s1 := s1) h0 (And.intro (And.intro a0 a1) (And.intro (And.intro ?_ ?_) (And.intro ?_ ?_))) m1 hz K⟩
    · rw [eB, pk_un (by decide), b0]
    · rw [eB, pk_us, eq]
    · rw [eC, pk_us]
      unfold rg_pa
      rw [if_pos h3]
      rfl
    · rw [eC, pk_un (by decide), c1]
  unfold wY_step_152
  refine br_c (fun h3 C eC => ?_) (fun h3 => ?_)
  · have e3 := m0.2.2.mp h3
    have D7 : rg_pt q1 e0 nr = q1 → wY_step_197 post x5 z0 1 f mv pl po C bf := by
      intro e
      unfold wY_step_197
      rw [b1]
      exact D C e3 eC q1 e
    rw [b1]
    refine br_c (fun hz0 => D7 (rg_pt_0 (Or.inr (Or.inr (hz.mp hz0))))) (fun hz0 => pk_le q1 0 (fun h => D7 (rg_pt_0 (Or.inl (by omega)))) (fun h => ?_))
    have hn : nr = true := by
      cases nr
      · exact absurd (hz.mpr rfl) hz0
      · rfl
    rw [rg_p1 h]
    exact D C e3 eC (q1 - 1) (rg_pt_1 e3 hn)
  · have hm3 : e0 ≠ 3 := fun h => h3 (m0.2.2.mpr h)
    refine ry_204 (p0 := p0) (p1 := p1) (q0 := q0) (q1 := rg_pt q1 e0 nr) (s0 := rg_pa s0 e0) (s1 := s1) h0 (And.intro (And.intro a0 a1) (And.intro (And.intro b0 ?_) (And.intro ?_ c1))) m1 hz K
    · rw [rg_pt_0 (Or.inr (Or.inl hm3)), b1]
    · unfold rg_pa
      rw [if_neg hm3, c0]
theorem ry_105 {post : SY → Prop} {x4 x5 : Int32} {p0 p1 q0 q1 s0 s1 e0 e1 : Nat} (hp0 : p0 < 10) (hp1 : p1 < 10) (h0 : q0 < 10) (h1 : q1 < 10) (a0 : pl 0 = nI p0) (a1 : pl 1 = nI p1) (b0 : po 0 = nI q0) (b1 : po 1 = nI q1) (c0 : pa 0 = nI s0) (m0 : rg_mv x4 e0) (m1 : rg_mv x5 e1)
    (K : ∀ A B C, rg_fd (rg_s6 (rg_wk p0 p1 e0) (rg_wk p1 (rg_wk p0 p1 e0) e1) q0 q1 s0 s1 e0 e1) A B C → post (f, mv, A, B, C, bf)) : wY_step_105 post x4 x5 (nI s1) 1 f mv pl po pa bf := by
  unfold wY_step_105
  refine ⟨rg_in01, fun C eC => ?_⟩
  rw [rg_cl1] at eC
  have k0 : C 0 = nI s0 := by rw [eC, pk_un (by decide), c0]
  have k1 : C 1 = nI s1 := by rw [eC, pk_us]
  have w0 : rg_wk p0 p1 e0 < 10 := rg_wk_lt hp0
  have w1 : rg_wk p1 (rg_wk p0 p1 e0) e1 < 10 := rg_wk_lt hp1
  refine ry_walk (c := 0) (o := 1) (p := p0) (q := p1) (m := e0) rg_in00 rg_in10 rg_cl0 rg_cl10 (by decide) hp0 hp1 a0 a1 m0 (fun A g0 g1 => ?_)
  dsimp only
  refine ry_walk (c := 1) (o := 0) (p := p1) (q := rg_wk p0 p1 e0) (m := e1) rg_in01 rg_in11 rg_cl1 rg_cl11 (by decide) hp1 w0 g1 g0 m1 (fun A' g1' g0' => ?_)
  dsimp only
  generalize rg_wk p0 p1 e0 = P0 at *
  generalize rg_wk p1 P0 e1 = P1 at *
  have N := rg_near w0 w1
  have fd : rg_fd (P0, P1, q0, q1, s0, s1) A' po C := And.intro (And.intro g0' g1') (And.intro (And.intro b0 b1) (And.intro k0 k1))
  intro y ey
  rw [g0', g1'] at ey
  subst ey
  have T : ∀ z0 : Int32, (z0 = 0 ↔ rg_nr P0 P1 = false) → wY_step_152 post x4 x5 z0 f mv A' po C bf := fun z0 hz => ry_152 h0 h1 fd m0 m1 hz (fun B C k => K A' B C k)
  have Z : ∀ h : rg_nr P0 P1 = false, wY_step_151 post x4 x5 f mv A' po C bf := by
    intro h
    unfold wY_step_151
    exact T 0 ⟨fun _ => h, fun _ => rfl⟩
  refine br_c (fun h => Z ?_) (fun h => br_c (fun h' => Z ?_) (fun h' => T 1 ?_))
  · have := N.1.mp h
    unfold rg_nr
    exact decide_eq_false (by omega)
  · have := N.2.mp h'
    unfold rg_nr
    exact decide_eq_false (by omega)
  · rw [N.1] at h
    rw [N.2] at h'
    have e : rg_nr P0 P1 = true := by
      unfold rg_nr
      exact decide_eq_true (by omega)
    rw [e]
    exact ⟨fun z => absurd z (by decide), fun z => absurd z (by decide)⟩
theorem ry_60 {post : SY → Prop} {x2 x3 x4 x5 : Int32} {p0 p1 q0 q1 r0 r1 e0 e1 : Nat} (ok : rg_ok (p0, p1, q0, q1, r0, r1)) (fd : rg_fd (p0, p1, q0, q1, r0, r1) pl po pa) (m0 : rg_mv x4 e0) (m1 : rg_mv x5 e1) (z2 : x2 = 0 ↔ r0 ≠ 0) (z3 : x3 = 0 ↔ r1 ≠ 0)
    (K : ∀ A B C, rg_fd (rg_s6 (rg_wk p0 p1 e0) (rg_wk p1 (rg_wk p0 p1 e0) e1) q0 q1 (r0 - 1) (r1 - 1) e0 e1) A B C → post (f, mv, A, B, C, bf)) : wY_step_60 post x2 x3 x4 x5 f mv pl po pa bf := by
  obtain ⟨h0, h1, h2, h3, h4, h5⟩ := ok
  obtain ⟨⟨a0, a1⟩, ⟨b0, b1⟩, ⟨c0, c1⟩⟩ := fd
  have T : wY_step_83 post x3 x4 x5 (nI (r0 - 1)) 0 f mv pl po pa bf := by
    unfold wY_step_83
    refine ⟨rg_in00, fun C eC => ?_⟩
    rw [rg_cl0] at eC
    have k0 : C 0 = nI (r0 - 1) := by rw [eC, pk_us]
    have k1 : C 1 = nI r1 := by rw [eC, pk_un (by decide), c1]
    have T' : wY_step_105 post x4 x5 (nI (r1 - 1)) 1 f mv pl po C bf := ry_105 h0 h1 h2 h3 a0 a1 b0 b1 k0 m0 m1 K
    rw [k1]
    refine br_c (fun h => ?_) (fun h => ?_)
    · have n1 := z3.mp h
      rw [rg_p1 (by omega)]
      exact T'
    · have n1 : r1 - 1 = 0 := by
        by_cases z : r1 = 0
        · omega
        · exact absurd (z3.mpr z) h
      rw [n1] at T'
      exact T'
  unfold wY_step_60
  rw [c0]
  refine br_c (fun h => ?_) (fun h => ?_)
  · have n1 := z2.mp h
    rw [rg_p1 (by omega)]
    exact T
  · have n1 : r0 - 1 = 0 := by
      by_cases z : r0 = 0
      · omega
      · exact absurd (z2.mpr z) h
    rw [n1] at T
    exact T
theorem ry_44 {post : SY → Prop} {M : Nat → Nat} {x2 x3 x4 : Int32} {g p0 p1 q0 q1 r0 r1 e0 : Nat} (hg : g < 40) (hM : ∀ j, j < 80 → M j ≤ 4) (hV : ∀ j, j < 80 → mv j = nI (M j)) (ok : rg_ok (p0, p1, q0, q1, r0, r1)) (fd : rg_fd (p0, p1, q0, q1, r0, r1) pl po pa) (m0 : rg_mv x4 e0) (z2 : x2 = 0 ↔ r0 ≠ 0) (z3 : x3 = 0 ↔ r1 ≠ 0)
    (K : ∀ A B C, rg_fd (rg_s6 (rg_wk p0 p1 e0) (rg_wk p1 (rg_wk p0 p1 e0) (rg_ef r1 (rg_us M 1 g))) q0 q1 (r0 - 1) (r1 - 1) e0 (rg_ef r1 (rg_us M 1 g))) A B C → post (f, mv, A, B, C, bf)) : wY_step_44 post (nI g) x2 x3 x4 f mv pl po pa bf := by
  have ul := (rg_us_le (p := 1) (by decide) hM g hg).2
  have T : ∀ e, rg_ef r1 (rg_us M 1 g) = e → e < 4 → wY_step_60 post x2 x3 x4 (nI e) f mv pl po pa bf := by
    intro e he h4
    rw [he] at K
    exact ry_60 ok fd m0 (rg_mvn h4) z2 z3 K
  unfold wY_step_44
  refine br_c (fun h => T 0 (if_neg (z3.mp h)) (by decide)) (fun h => ry_used (p := 1) (by decide) hg hM hV (T _ (if_pos ?_) (by omega)))
  by_cases z : r1 = 0
  · exact z
  · exact absurd (z3.mpr z) h
theorem ry_29 {post : SY → Prop} {M : Nat → Nat} {x2 x3 : Int32} {g p0 p1 q0 q1 r0 r1 : Nat} (hg : g < 40) (hM : ∀ j, j < 80 → M j ≤ 4) (hV : ∀ j, j < 80 → mv j = nI (M j)) (ok : rg_ok (p0, p1, q0, q1, r0, r1)) (fd : rg_fd (p0, p1, q0, q1, r0, r1) pl po pa) (z2 : x2 = 0 ↔ r0 ≠ 0) (z3 : x3 = 0 ↔ r1 ≠ 0)
    (K : ∀ A B C, rg_fd (rg_st (p0, p1, q0, q1, r0, r1) (rg_us M 0 g) (rg_us M 1 g)) A B C → post (f, mv, A, B, C, bf)) : wY_step_29 post (nI g) x2 x3 f mv pl po pa bf := by
  have ul := (rg_us_le (p := 0) (by decide) hM g hg).2
  have T : ∀ e, rg_ef r0 (rg_us M 0 g) = e → e < 4 → wY_step_44 post (nI g) x2 x3 (nI e) f mv pl po pa bf := by
    intro e he h4
    unfold rg_st at K
    dsimp only at K
    rw [he] at K
    exact ry_44 hg hM hV ok fd (rg_mvn h4) z2 z3 K
  unfold wY_step_29
  refine br_c (fun h => T 0 (if_neg (z2.mp h)) (by decide)) (fun h => ry_used (p := 0) (by decide) hg hM hV (T _ (if_pos ?_) (by omega)))
  by_cases z : r0 = 0
  · exact z
  · exact absurd (z2.mpr z) h
theorem ry_step {post : SY → Prop} {M : Nat → Nat} {F : rg_F} {g : Nat} (hg : g < 40) (hM : ∀ j, j < 80 → M j ≤ 4) (hV : ∀ j, j < 80 → mv j = nI (M j)) (ok : rg_ok F) (fd : rg_fd F pl po pa)
    (K : ∀ A B C, rg_fd (rg_st F (rg_us M 0 g) (rg_us M 1 g)) A B C → post (f, mv, A, B, C, bf)) : wpY_step post (f, mv, pl, po, pa, bf) (nI g) := by
  obtain ⟨p0, p1, q0, q1, r0, r1⟩ := F
  have h4 : r0 < 10 := ok.2.2.2.2.1
  have h5 : r1 < 10 := ok.2.2.2.2.2
  have T : ∀ x2 : Int32, (x2 = 0 ↔ r0 ≠ 0) → wY_step_14 post (nI g) x2 f mv pl po pa bf := by
    intro x2 z2
    unfold wY_step_14
    rw [fd.2.2.2]
    exact pk_eq r1 0 (fun h => ry_29 hg hM hV ok fd z2 ⟨fun z => absurd z (by decide), fun z => absurd h z⟩ K) (fun h => ry_29 hg hM hV ok fd z2 ⟨fun _ => h, fun _ => rfl⟩ K)
  unfold wpY_step
  dsimp only
  rw [fd.2.2.1]
  exact pk_eq r0 0 (fun h => T 1 ⟨fun z => absurd z (by decide), fun z => absurd h z⟩) (fun h => T 0 ⟨fun _ => h, fun _ => rfl⟩)
theorem ry_play44 {post : SY → Prop} {M : Nat → Nat} {n : Nat} (hn : n ≤ 40) (hM : ∀ j, j < 80 → M j ≤ 4) (hV : ∀ j, j < 80 → mv j = nI (M j))
    (K : ∀ A B C, rg_fd (rg_pl M n) A B C → post (f, mv, A, B, C, bf)) :
    ∀ (k g : Nat) (pl po pa : Nat → Int32), k + g = n → rg_fd (rg_pl M g) pl po pa → wY_play_44 post (nI n) (k + 1) (nI g) f mv pl po pa bf := by
  intro k
  induction k with
  | zero =>
    intro g pl po pa hk fd
    have e : g = n := by omega
    subst e
    exact br_t (nI_le (Nat.le_refl g) (by omega)) (K pl po pa fd)
  | succ k ih =>
    intro g pl po pa hk fd
    rw [wY_play_44]
    dsimp only
    refine br_f (nI_ge (by omega) (by omega)) (ry_over (rg_ok_pl M g) fd (fun h => br_f (by decide) ?_) (fun h => br_t rfl ?_))
    · refine K pl po pa ?_
      have e := rg_pl_ov h (n - g)
      rw [show g + (n - g) = n from by omega] at e
      rw [e]
      exact fd
    · refine ry_step (by omega) hM hV (rg_ok_pl M g) fd (fun A B C fd' => ?_)
      dsimp only
      rw [nI_1]
      intro x ex
      rw [ex]
      refine ih (g + 1) A B C (by omega) ?_
      rw [rg_pl_n h]
      exact fd'
theorem ry_play {post : SY → Prop} {M : Nat → Nat} {n : Nat} (hn : n ≤ 40) (hM : ∀ j, j < 80 → M j ≤ 4) (hV : ∀ j, j < 80 → mv j = nI (M j))
    (K : ∀ A B C, rg_fd (rg_pl M n) A B C → post (f, mv, A, B, C, bf)) : wpY_play post (f, mv, pl, po, pa, bf) (nI n) := by
  unfold wpY_play
  dsimp only
  intro A1 eA1 A2 eA2
  refine ⟨3, ?_⟩
  refine br_f (by decide) ⟨rg_in00, fun B1 eB1 => ⟨rg_in00, fun C1 eC1 x ex => ?_⟩⟩
  rw [rg_cl0] at eB1 eC1
  subst ex
  refine br_f (by decide) ⟨vp_in_iff.mpr (by decide), fun B2 eB2 => ⟨vp_in_iff.mpr (by decide), fun C2 eC2 x ex => ?_⟩⟩
  rw [show ((0 : Int32) + 1).toNatClampNeg = 1 from by decide] at eB2 eC2
  subst ex
  refine br_t (by decide) ⟨n + 1, ?_⟩
  refine ry_play44 hn hM hV K n 0 A2 B2 C2 rfl ?_
  refine And.intro (And.intro ?_ ?_) (And.intro (And.intro ?_ ?_) (And.intro ?_ ?_))
  · rw [eA2, pk_un (by decide), eA1, pk_us]
    rfl
  · rw [eA2, pk_us]
    rfl
  · rw [eB2, pk_un (by decide), eB1, pk_us]
    rfl
  · rw [eB2, pk_us]
    rfl
  · rw [eC2, pk_un (by decide), eC1, pk_us]
    rfl
  · rw [eC2, pk_us]
    rfl
theorem ry_pic {post : Int32 → SY → Prop} {M : Nat → Nat} {n : Nat} (hn : n ≤ 40) (hM : ∀ j, j < 80 → M j ≤ 4) (hV : ∀ j, j < 80 → mv j = nI (M j))
    (K : ∀ A B C, post (nI (rg_pk (rg_pl M n))) (f, mv, A, B, C, bf)) : wpY_picture post (f, mv, pl, po, pa, bf) (nI n) := by
  unfold wpY_picture
  dsimp only
  refine ry_play hn hM hV (fun A B C fd => ?_)
  dsimp only
  have k := K A B C
  generalize rg_pl M n = F at fd k
  obtain ⟨p0, p1, q0, q1, r0, r1⟩ := F
  obtain ⟨⟨a0, a1⟩, ⟨b0, b1⟩, ⟨c0, c1⟩⟩ := fd
  rw [a0, a1, b0, b1, c0, c1, rg_pkI]
  exact k
end
end
section
/-! Y: its loops and small ones -/
section
variable {f : Int32} {mv pl po pa bf : Nat → Int32}
theorem ry_p1 {post : Int32 → Prop} {p : Nat} (hp : p < 2) (K : post 1) : wpY_player post (f, mv, pl, po, pa, bf) (nI p) := by
  unfold wpY_player
  dsimp only
  exact pk_eq p 0 (fun _ => K) (fun h => pk_eq p 1 (fun _ => K) (fun h' => absurd hp (by omega)))
theorem ry_p0 {post : Int32 → Prop} {x : Int32} (h0 : ¬ x = 0) (h1 : ¬ x = 1) (K : post 0) : wpY_player post (f, mv, pl, po, pa, bf) x := by
  unfold wpY_player
  dsimp only
  exact br_f h0 (br_f h1 K)
theorem ry_f1 {post : Int32 → Prop} {g : Nat} (hg : g < 40) (K : post 1) : wpY_frame post (f, mv, pl, po, pa, bf) (nI g) := by
  unfold wpY_frame
  dsimp only
  exact br_f (nI_pos (by omega)) (br_f (nI_nlt (a := 39) (b := g) (by omega) (by decide)) K)
theorem ry_f0 {post : Int32 → Prop} {x : Int32} (h : x < 0 ∨ nI 40 ≤ x) (K : post 0) : wpY_frame post (f, mv, pl, po, pa, bf) x := by
  unfold wpY_frame
  dsimp only
  refine br_c (fun _ => K) (fun h0 => br_t ?_ K)
  rcases h with h | h
  · exact absurd h h0
  · exact Int32.lt_of_lt_of_le (nI_lt (a := 39) (b := 40) (by decide) (by decide)) h
theorem ry_sure2 {post : Int32 → Prop} {M : Nat → Nat} (hM : ∀ j, j < 80 → M j ≤ 4) (hV : ∀ j, j < 80 → mv j = nI (M j)) (K : ∀ n, rg_su M n → post (nI n)) :
    ∀ k g, k + g = 40 → (∀ j, j < g → 0 < M j ∧ 0 < M (40 + j)) → wY_sure_2 post f mv pl po pa bf (k + 1) (nI g) := by
  intro k
  induction k with
  | zero =>
    intro g hk h
    have eg : g = 40 := by omega
    subst eg
    exact br_t (nI_le (a := 40) (b := 40) (by decide) (by decide)) (K 40 ⟨by decide, h, fun z => absurd z (by decide)⟩)
  | succ k ih =>
    intro g hk h
    have hg : g < 40 := by omega
    have m0 := hM g (by omega)
    have m1 := hM (40 + g) (by omega)
    rw [wY_sure_2]
    dsimp only
    rw [rg_i4, nI_clamp (n := g) (by omega), nI_clamp (n := 40 + g) (by omega), hV g (by omega), hV (40 + g) (by omega), nI_1]
    refine br_f (nI_ge (b := 40) hg (by decide)) ⟨vp_in_nI (by omega) (by decide), pk_le (M g) 0 (fun z => K g ⟨by omega, h, fun _ => Or.inl (by omega)⟩) (fun z => ⟨vp_in_nI (by omega) (by decide), pk_le (M (40 + g)) 0 (fun z' => K g ⟨by omega, h, fun _ => Or.inr (by omega)⟩) (fun z' x ex => ?_)⟩)⟩
    rw [ex]
    refine ih (g + 1) (by omega) (fun j hj => ?_)
    by_cases e : j = g
    · rw [e]
      exact ⟨z, z'⟩
    · exact h j (by omega)
theorem ry_sure {post : Int32 → Prop} {M : Nat → Nat} (hM : ∀ j, j < 80 → M j ≤ 4) (hV : ∀ j, j < 80 → mv j = nI (M j)) (K : ∀ n, rg_su M n → post (nI n)) : wpY_sure post (f, mv, pl, po, pa, bf) := by
  unfold wpY_sure
  dsimp only
  exact ⟨40 + 1, ry_sure2 hM hV K 40 0 rfl (fun j hj => absurd hj (by omega))⟩
theorem ry_mi2 {post : Int32 → Prop} {M : Nat → Nat} {p : Nat} (hp : p < 2) (hM : ∀ j, j < 80 → M j ≤ 4) (hV : ∀ j, j < 80 → mv j = nI (M j))
    (K : ∀ a, a < 40 → (∀ j, j < a → 0 < M (40 * p + j)) → M (40 * p + a) = 0 → post (nI a)) (K' : (∀ j, j < 40 → 0 < M (40 * p + j)) → post (-2)) :
    ∀ k g, k + g = 40 → (∀ j, j < g → 0 < M (40 * p + j)) → wY_missing_2 post (nI p) f mv pl po pa bf (k + 1) (nI g) := by
  intro k
  induction k with
  | zero =>
    intro g hk h
    have eg : g = 40 := by omega
    subst eg
    refine br_t (nI_le (a := 40) (b := 40) (by decide) (by decide)) ?_
    unfold wY_missing_38
    exact ry_p1 hp (br_f (by decide) (K' h))
  | succ k ih =>
    intro g hk h
    have hg : g < 40 := by omega
    have m0 := hM (40 * p + g) (by omega)
    rw [wY_missing_2]
    dsimp only
    rw [rg_iy, nI_clamp (by omega), hV (40 * p + g) (by omega), nI_1]
    refine br_f (nI_ge (b := 40) hg (by decide)) (ry_p1 hp (br_f (by decide) ⟨vp_in_nI (by omega) (by decide), pk_eq (M (40 * p + g)) 0 (fun z => K g hg h z) (fun z x ex => ?_)⟩))
    rw [ex]
    refine ih (g + 1) (by omega) (fun j hj => ?_)
    by_cases e : j = g
    · rw [e]
      omega
    · exact h j (by omega)
theorem ry_mi {post : Int32 → Prop} {M : Nat → Nat} {p : Nat} (hp : p < 2) (hM : ∀ j, j < 80 → M j ≤ 4) (hV : ∀ j, j < 80 → mv j = nI (M j))
    (K : ∀ a, a < 40 → (∀ j, j < a → 0 < M (40 * p + j)) → M (40 * p + a) = 0 → post (nI a)) (K' : (∀ j, j < 40 → 0 < M (40 * p + j)) → post (-2)) : wpY_missing post (f, mv, pl, po, pa, bf) (nI p) := by
  unfold wpY_missing
  dsimp only
  exact ⟨40 + 1, ry_mi2 hp hM hV K K' 40 0 rfl (fun j hj => absurd hj (by omega))⟩
theorem ry_mi0 {post : Int32 → Prop} {x : Int32} (h0 : ¬ x = 0) (h1 : ¬ x = 1) (K : post (-1)) : wpY_missing post (f, mv, pl, po, pa, bf) x := by
  unfold wpY_missing
  dsimp only
  refine ⟨1, br_f (by decide) (ry_p0 h0 h1 (br_t rfl ?_))⟩
  unfold wY_missing_38
  exact ry_p0 h0 h1 (br_t rfl K)
end
section
variable {f : Int32} {mv bf : Nat → Int32}
theorem ry_oa2 {post : Int32 → SY → Prop} {M : Nat → Nat} (hM : ∀ j, j < 80 → M j ≤ 4) (hV : ∀ j, j < 80 → mv j = nI (M j)) (K : ∀ n A B C, n ≤ 40 → (∀ j, j < n → rg_ov (rg_pl M j) = false) → rg_ov (rg_pl M n) = true → post (nI n) (f, mv, A, B, C, bf)) (K' : ∀ A B C, (∀ j, j < 41 → rg_ov (rg_pl M j) = false) → post (-2) (f, mv, A, B, C, bf)) :
    ∀ (k g : Nat) (pl po pa : Nat → Int32), k + g = 41 → (∀ j, j < g → rg_ov (rg_pl M j) = false) → wY_overAfter_2 post (k + 1) (nI g) f mv pl po pa bf := by
  intro k
  induction k with
  | zero =>
    intro g pl po pa hk h
    have eg : g = 41 := by omega
    subst eg
    exact br_t (nI_lt (a := 40) (b := 41) (by decide) (by decide)) (K' pl po pa h)
  | succ k ih =>
    intro g pl po pa hk h
    rw [wY_overAfter_2]
    dsimp only
    refine br_f (nI_nlt (a := 40) (b := g) (by omega) (by decide)) (ry_play (by omega) hM hV (fun A B C fd => ?_))
    dsimp only
    refine ry_over (rg_ok_pl M g) fd (fun ho => br_f (by decide) (K g A B C (by omega) h ho)) (fun ho => br_t rfl ?_)
    rw [nI_1]
    intro x ex
    rw [ex]
    refine ih (g + 1) A B C (by omega) (fun j hj => ?_)
    by_cases e : j = g
    · rw [e]
      exact ho
    · exact h j (by omega)
theorem ry_oa {post : Int32 → SY → Prop} {M : Nat → Nat} {pl po pa : Nat → Int32} (hM : ∀ j, j < 80 → M j ≤ 4) (hV : ∀ j, j < 80 → mv j = nI (M j)) (K : ∀ n A B C, n ≤ 40 → (∀ j, j < n → rg_ov (rg_pl M j) = false) → rg_ov (rg_pl M n) = true → post (nI n) (f, mv, A, B, C, bf)) (K' : ∀ A B C, (∀ j, j < 41 → rg_ov (rg_pl M j) = false) → post (-2) (f, mv, A, B, C, bf)) : wpY_overAfter post (f, mv, pl, po, pa, bf) := by
  unfold wpY_overAfter
  dsimp only
  exact ⟨41 + 1, ry_oa2 hM hV K K' 41 0 pl po pa rfl (fun j hj => absurd hj (by omega))⟩
theorem ry_ar92 {post : Int32 → SY → Prop} {N : Nat → Nat} {S : Nat → Int32} {d : Nat} (hd : d ≤ 40) (hN : ∀ j, j < 80 → N j ≤ 4) (hV : ∀ j, j < 80 → mv j = nI (N j)) (hB : ∀ j, 1 ≤ j → j ≤ d → bf j = S j)
    (K : ∀ A B C, post (nI (rg_ct (rg_df S N d) d)) (nI d, mv, A, B, C, bf)) :
    ∀ (k g : Nat) (pl po pa : Nat → Int32), k + g = d → wY_arrive_92 post (k + 1) (nI (rg_ct (rg_df S N d) g)) (nI (g + 1)) (nI d) mv pl po pa bf := by
  intro k
  induction k with
  | zero =>
    intro g pl po pa hk
    have eg : g = d := by omega
    subst eg
    exact br_t (nI_lt (by omega) (by omega)) (K pl po pa)
  | succ k ih =>
    intro g pl po pa hk
    rw [wY_arrive_92]
    dsimp only
    refine br_f (nI_nlt (by omega) (by omega)) (ry_pic (by omega) hN hV (fun A B C => ?_))
    dsimp only
    rw [nI_clamp (by omega), hB (g + 1) (by omega) (by omega), nI_1 (g + 1), nI_1 (rg_ct (rg_df S N d) g)]
    have J : ∀ e, rg_df S N d (g + 1) = e → wY_arrive_92 post (k + 1) (nI (rg_ct (rg_df S N d) g + e)) (nI (g + 1 + 1)) (nI d) mv A B C bf := by
      intro e he
      rw [← he]
      exact ih (g + 1) A B C (by omega)
    refine ⟨vp_in_nI (by omega) (by decide), br_c (fun h x ex => ?_) (fun h x ex y ey => ?_)⟩
    · rw [ex]
      exact J 0 (rg_df_0 (Or.inr h.symm))
    · rw [ex, ey]
      exact J 1 (rg_df_1 (by omega) (fun z => h z.symm))
end
section
variable {mv : Nat → Int32}
theorem ry_ar44 {post : Int32 → SY → Prop} {M N : Nat → Nat} {S : Nat → Int32} {d p fr m : Nat} (hp : p < 2) (hfr : fr < 40) (hd : d ≤ 40) (hM : ∀ j, j < 80 → M j ≤ 4) (hN : ∀ j, j < 80 → N j ≤ 4) (hV : ∀ j, j < 80 → mv j = nI (M j)) (hS : ∀ n, n ≤ 40 → S n = nI (rg_pk (rg_pl M n)))
    (hMN : ∀ j, j < 80 → j ≠ 40 * p + fr → N j = M j) (hc : N (40 * p + fr) = m + 1)
    (K : ∀ mv' A B C bf, (∀ j, j < 80 → mv' j = nI (N j)) → post (nI (rg_ct (rg_df S N d) d)) (nI d, mv', A, B, C, bf)) :
    ∀ (k g : Nat) (pl po pa bf : Nat → Int32), k + g = d → (∀ j, 1 ≤ j → j ≤ g → bf j = S j) → wY_arrive_44 post (nI p) (nI fr) (nI m) (k + 1) (nI (g + 1)) (nI d) mv pl po pa bf := by
  intro k
  induction k with
  | zero =>
    intro g pl po pa bf hk hB
    have eg : g = d := by omega
    subst eg
    rw [wY_arrive_44]
    dsimp only
    rw [rg_iy, nI_clamp (by omega), nI_1 m]
    refine br_t (nI_lt (by omega) (by omega)) ⟨vp_in_nI (by omega) (by decide), fun mv' em => ⟨g + 1, ?_⟩⟩
    have hV' : ∀ j, j < 80 → mv' j = nI (N j) := by
      intro j hj
      by_cases z : j = 40 * p + fr
      · rw [z, em, pk_us, hc]
      · rw [em, pk_un z, hV j hj, hMN j hj z]
    exact ry_ar92 hd hN hV' hB (fun A B C => K mv' A B C bf hV') g 0 pl po pa rfl
  | succ k ih =>
    intro g pl po pa bf hk hB
    rw [wY_arrive_44]
    dsimp only
    refine br_f (nI_nlt (by omega) (by omega)) (ry_pic (by omega) hM hV (fun A B C => ?_))
    dsimp only
    rw [nI_clamp (by omega), nI_1 (g + 1)]
    refine ⟨vp_in_nI (by omega) (by decide), fun bf' eb x ex => ?_⟩
    rw [ex]
    refine ih (g + 1) A B C bf' (by omega) (fun j hj hj' => ?_)
    by_cases z : j = g + 1
    · rw [z, eb, pk_us, hS (g + 1) (by omega)]
    · rw [eb, pk_un z]
      exact hB j hj (by omega)
end
section
variable {mv pl po pa bf : Nat → Int32}
theorem ry_arr_p {post : Int32 → SY → Prop} {f x y z : Int32} (n0 : ¬ x = 0) (n1 : ¬ x = 1) (K : post (-1) (f, mv, pl, po, pa, bf)) : wpY_arrive post (f, mv, pl, po, pa, bf) x y z := by
  unfold wpY_arrive
  dsimp only
  exact ry_p0 n0 n1 (br_t rfl K)
theorem ry_arr_f {post : Int32 → SY → Prop} {f y z : Int32} {p : Nat} (hp : p < 2) (hf : y < 0 ∨ nI 40 ≤ y) (K : post (-1) (f, mv, pl, po, pa, bf)) : wpY_arrive post (f, mv, pl, po, pa, bf) (nI p) y z := by
  unfold wpY_arrive
  dsimp only
  exact ry_p1 hp (br_f (by decide) (ry_f0 hf (br_t rfl K)))
theorem ry_arr_m {post : Int32 → SY → Prop} {f z : Int32} {p fr : Nat} (hp : p < 2) (hfr : fr < 40) (h : z < 0 ∨ 3 < z) (K : post (-1) (f, mv, pl, po, pa, bf)) : wpY_arrive post (f, mv, pl, po, pa, bf) (nI p) (nI fr) z := by
  unfold wpY_arrive
  dsimp only
  refine ry_p1 hp (br_f (by decide) (ry_f1 hfr (br_f (by decide) (br_c (fun _ => K) (fun h0 => br_t ?_ K)))))
  rcases h with h | h
  · exact absurd h h0
  · exact h
theorem ry_arr_x {post : Int32 → SY → Prop} {f z : Int32} {M : Nat → Nat} {p fr : Nat} (hp : p < 2) (hfr : fr < 40) (h0 : ¬ z < 0) (h3 : ¬ 3 < z) (hM : ∀ j, j < 80 → M j ≤ 4) (hV : ∀ j, j < 80 → mv j = nI (M j)) (hz : 0 < M (40 * p + fr)) (K : post (-1) (f, mv, pl, po, pa, bf)) : wpY_arrive post (f, mv, pl, po, pa, bf) (nI p) (nI fr) z := by
  have hm := hM (40 * p + fr) (by omega)
  unfold wpY_arrive
  dsimp only
  refine ry_p1 hp (br_f (by decide) (ry_f1 hfr (br_f (by decide) (br_f h0 (br_f h3 ?_)))))
  rw [rg_iy, nI_clamp (by omega), hV (40 * p + fr) (by omega)]
  exact ⟨vp_in_nI (by omega) (by decide), br_f (nI_nle hz (by omega)) K⟩
theorem ry_arr {post : Int32 → SY → Prop} {M N : Nat → Nat} {S : Nat → Int32} {d p fr m : Nat} (hp : p < 2) (hfr : fr < 40) (hm : m < 4) (hd : d ≤ 40) (hM : ∀ j, j < 80 → M j ≤ 4) (hN : ∀ j, j < 80 → N j ≤ 4) (hV : ∀ j, j < 80 → mv j = nI (M j)) (hS : ∀ n, n ≤ 40 → S n = nI (rg_pk (rg_pl M n)))
    (hz : M (40 * p + fr) = 0) (hMN : ∀ j, j < 80 → j ≠ 40 * p + fr → N j = M j) (hc : N (40 * p + fr) = m + 1)
    (K : ∀ mv' A B C bf, (∀ j, j < 80 → mv' j = nI (N j)) → post (nI (rg_ct (rg_df S N d) d)) (nI d, mv', A, B, C, bf)) : wpY_arrive post (nI d, mv, pl, po, pa, bf) (nI p) (nI fr) (nI m) := by
  unfold wpY_arrive
  dsimp only
  refine ry_p1 hp (br_f (by decide) (ry_f1 hfr (br_f (by decide) (br_f (nI_pos (by omega)) (br_f (nI_nlt (a := 3) (b := m) (by omega) (by decide)) ?_)))))
  rw [rg_iy, nI_clamp (by omega), hV (40 * p + fr) (by omega), hz]
  exact ⟨vp_in_nI (by omega) (by decide), br_t (by decide) ⟨d + 1, ry_ar44 hp hfr hd hM hN hV hS hMN hc K d 0 pl po pa bf rfl (fun j h1 h2 => absurd h1 (by omega))⟩⟩
end
def rg_wn : rg_F → Int32
  | (_, _, q0, q1, _, _) => if q0 = 0 then (if q1 = 0 then 2 else 1) else (if q1 = 0 then 0 else -2)
section
variable {f : Int32} {mv pl po pa bf : Nat → Int32}
theorem ry_win0 {post : Int32 → SY → Prop} {x : Int32} (h : x < 0 ∨ (¬ x < 0 ∧ ¬ x ≤ 40)) (K : post (-1) (f, mv, pl, po, pa, bf)) : wpY_winner post (f, mv, pl, po, pa, bf) x := by
  unfold wpY_winner
  dsimp only
  rcases h with h | h
  · exact br_t h K
  · exact br_f h.1 (br_f h.2 K)
theorem ry_win {post : Int32 → SY → Prop} {M : Nat → Nat} {n : Nat} (hn : n ≤ 40) (hM : ∀ j, j < 80 → M j ≤ 4) (hV : ∀ j, j < 80 → mv j = nI (M j))
    (K : ∀ A B C, post (rg_wn (rg_pl M n)) (f, mv, A, B, C, bf)) : wpY_winner post (f, mv, pl, po, pa, bf) (nI n) := by
  unfold wpY_winner
  dsimp only
  refine br_f (nI_pos (by omega)) (br_t (nI_le (b := 40) hn (by decide)) (ry_play hn hM hV (fun A B C fd => ?_)))
  dsimp only
  have k := K A B C
  have ok := rg_ok_pl M n
  refine ry_over ok fd (fun ho => br_f (by decide) ?_) (fun ho => br_t rfl ?_)
  · generalize rg_pl M n = F at fd k ok ho
    obtain ⟨p0, p1, q0, q1, r0, r1⟩ := F
    have h2 : q0 < 10 := ok.2.2.1
    have h3 : q1 < 10 := ok.2.2.2.1
    have ho' : q0 = 0 ∨ q1 = 0 := of_decide_eq_true ho
    unfold rg_wn at k
    dsimp only at k
    rw [fd.2.1.1, fd.2.1.2]
    refine pk_le q0 0 (fun a => pk_le q1 0 (fun b => ?_) (fun b => ?_)) (fun a => ?_)
    · rw [if_pos (by omega), if_pos (by omega)] at k
      exact k
    · rw [if_pos (by omega), if_neg (by omega)] at k
      exact k
    · rw [if_neg (by omega), if_pos (by omega)] at k
      exact k
  · generalize rg_pl M n = F at k ho
    obtain ⟨p0, p1, q0, q1, r0, r1⟩ := F
    have ho' : ¬ (q0 = 0 ∨ q1 = 0) := of_decide_eq_false ho
    unfold rg_wn at k
    dsimp only at k
    rw [if_neg (by omega), if_neg (by omega)] at k
    exact k
theorem ry_set {post : Int32 → SY → Prop} {M : Nat → Nat} {d n : Nat} (hd : d ≤ 40) (hM : ∀ j, j < 80 → M j ≤ 4) (hV : ∀ j, j < 80 → mv j = nI (M j)) (su : rg_su M n)
    (K1 : ∀ A B C, (d ≤ n ∨ rg_ov (rg_pl M n) = true) → post 1 (nI d, mv, A, B, C, bf)) (K0 : ∀ A B C, n < d → rg_ov (rg_pl M n) = false → post 0 (nI d, mv, A, B, C, bf)) : wpY_settled post (nI d, mv, pl, po, pa, bf) := by
  unfold wpY_settled
  dsimp only
  refine ry_sure hM hV (fun m hm => ?_)
  have e : m = n := rg_su_u hm su
  subst e
  have hn : m ≤ 40 := su.1
  refine ry_play hn hM hV (fun A B C fd => ?_)
  dsimp only
  exact pk_le d m (fun h => K1 A B C (Or.inl h)) (fun h => ry_over (rg_ok_pl M m) fd (fun ho => br_f (by decide) (K1 A B C (Or.inr ho))) (fun ho => br_t rfl (K0 A B C h ho)))
end
end
section
/-! the relation and what is owed -/
def rg_R (d : Nat) (M : Nat → Nat) (ar us sv mv : Nat → Int32) : Prop :=
  d ≤ 40 ∧ (∀ j, j < 80 → M j ≤ 4) ∧ (∀ j, j < 80 → ar j = if 0 < M j then 1 else 0) ∧ rg_U M us ∧ (∀ n, n ≤ 40 → sv n = nI (rg_pk (rg_pl M n))) ∧ (∀ j, j < 80 → mv j = nI (M j))
/-- the relation at the head of a turn: M j is the move that arrived at cell j and one more, 0 for none -/
def i_Rel (k : Nat) (u : SX) (v : SY) : Prop :=
  ∃ (d : Nat) (M : Nat → Nat) (ar us sv pl po pa mv pl' po' pa' bf : Nat → Int32), rg_R d M ar us sv mv ∧ u = (nI d, ar, us, sv, pl, po, pa) ∧ v = (nI d, mv, pl', po', pa', bf)
theorem rg_mk {k d : Nat} {M : Nat → Nat} {ar us sv pl po pa mv pl' po' pa' bf : Nat → Int32} (h : rg_R d M ar us sv mv) : i_Rel k (nI d, ar, us, sv, pl, po, pa) (nI d, mv, pl', po', pa', bf) :=
  ⟨d, M, ar, us, sv, pl, po, pa, mv, pl', po', pa', bf, h, rfl, rfl⟩
theorem rg_pr (x : Int32) : (∃ p : Nat, p < 2 ∧ x = nI p) ∨ (¬ x = 0 ∧ ¬ x = 1) := by
  by_cases h0 : x = 0
  · exact Or.inl ⟨0, by decide, h0⟩
  · by_cases h1 : x = 1
    · exact Or.inl ⟨1, by decide, h1⟩
    · exact Or.inr ⟨h0, h1⟩
theorem i_up {k : Nat} {u : SX} {v : SY} (h : i_Rel k u v) : i_Rel (k + 4) u v := h
theorem rg_us_z (p : Nat) : ∀ g, rg_gu (fun _ => 0) p g = 0 := by
  intro g
  induction g with
  | zero => rfl
  | succ g ih =>
    rw [rg_gu_s, rg_us_n rfl, ih]
    rfl
theorem i_vc0 : wpX_init (fun u => wpY_init (fun v => i_Rel 0 u v)) := by
  unfold wpX_init wpY_init
  intro sv es
  have hU : rg_U (fun _ => 0) (fun _ => 0) := by
    intro p g hp hg
    rw [rg_us_n rfl, rg_us_z]
    rfl
  refine rx_replay (d := 0) (t := 40) (g := 0) (M := fun _ => 0) (fun j _ => Nat.zero_le 4) (by decide) (by decide) (by decide) hU (fun n h1 h2 => absurd h1 (by omega)) (fun j hj => ?_) (fun sv' A B C hs => ?_)
  · have e : j = 0 := by omega
    rw [e, es, pk_us]
    rfl
  · exact rg_mk (d := 0) (M := fun _ => 0) ⟨by decide, fun j _ => Nat.zero_le 4, fun j _ => rfl, hU, hs, fun j _ => rfl⟩
theorem i_vc_arrive {k : Nat} {u : SX} {v : SY} (I : i_Rel k u v) (hk : k + 4 ≤ 2048) (v1 : Int32) (v2 : Int32) (v3 : Int32) : wpX_arrive (fun r u' => wpY_arrive (fun r' v' => r' = r ∧ i_Rel (k + 4) u' v') v v1 v2 v3) u v1 v2 v3 := by
  obtain ⟨d, M, ar, us, sv, pl, po, pa, mv, pl', po', pa', bf, R, rfl, rfl⟩ := I
  have R' := R
  obtain ⟨hd, hM, hA, hU, hS, hV⟩ := R'
  unfold wpX_arrive
  dsimp only
  rcases rg_pr v1 with ⟨p, hp, rfl⟩ | ⟨n0, n1⟩
  case inr => exact rx_p0 n0 n1 (br_t rfl (ry_arr_p n0 n1 ⟨rfl, rg_mk R⟩))
  refine rx_p1 hp (br_f (by decide) ?_)
  by_cases hf : v2 < 0 ∨ nI 40 ≤ v2
  · exact rx_f0 hf (br_t rfl (ry_arr_f hp hf ⟨rfl, rg_mk R⟩))
  obtain ⟨fr, hfr, rfl⟩ : ∃ fr : Nat, fr < 40 ∧ v2 = nI fr := by
    rcases pk_ix v2 (n := 40) (by decide) with h | h | h
    · exact absurd (Or.inl h) hf
    · exact absurd (Or.inr h) hf
    · exact h
  refine rx_f1 hfr (br_f (by decide) ?_)
  by_cases h0 : v3 < 0
  · exact br_t h0 (ry_arr_m hp hfr (Or.inl h0) ⟨rfl, rg_mk R⟩)
  refine br_f h0 ?_
  by_cases h3 : 3 < v3
  · exact br_t h3 (ry_arr_m hp hfr (Or.inr h3) ⟨rfl, rg_mk R⟩)
  refine br_f h3 ?_
  obtain ⟨m, hm, rfl⟩ := nI_of2 (M := 3) (n := 3) (by decide) h0 (Int32.not_lt.mp h3)
  rw [rg_ix, nI_clamp (by omega), hA (40 * p + fr) (by omega)]
  have hin : vp_in (nI (40 * p + fr)) 80 := vp_in_nI (by omega) (by decide)
  refine ⟨hin, ?_⟩
  by_cases hz : 0 < M (40 * p + fr)
  · rw [if_pos hz]
    exact br_f (by decide) (ry_arr_x hp hfr h0 h3 hM hV hz ⟨rfl, rg_mk R⟩)
  rw [if_neg hz]
  refine br_t rfl ⟨hin, fun ar' ea => ?_⟩
  have hz0 : M (40 * p + fr) = 0 := by omega
  have hc : rg_up M (40 * p + fr) (m + 1) (40 * p + fr) = m + 1 := rg_up_s
  have hMN : ∀ j, j < 80 → j ≠ 40 * p + fr → rg_up M (40 * p + fr) (m + 1) j = M j := fun j _ h => rg_up_n h
  generalize rg_up M (40 * p + fr) (m + 1) = N at hc hMN
  have hN : ∀ j, j < 80 → N j ≤ 4 := by
    intro j hj
    by_cases z : j = 40 * p + fr
    · rw [z, hc]
      omega
    · rw [hMN j hj z]
      exact hM j hj
  have hA' : ∀ j, j < 80 → ar' j = if 0 < N j then 1 else 0 := by
    intro j hj
    by_cases z : j = 40 * p + fr
    · rw [z, ea, pk_us, hc, if_pos (by omega)]
      rfl
    · rw [ea, pk_un z, hMN j hj z]
      exact hA j hj
  refine rx_use hp hfr (by omega) hM hN hA' hMN hc hU (fun us' t hU' t0 t1 t2 => ?_)
  dsimp only
  have eo : ∀ q g, q < 2 → g < 40 → (q ≠ p ∨ g < fr ∨ t ≤ g) → rg_us M q g = rg_us N q g := by
    intro q g hq hg h
    by_cases z : q = p
    · by_cases z2 : t ≤ g
      · rw [z]
        exact t2 g z2 hg
      · exact rg_us_eq (fun i hi => (hMN (40 * q + i) (by omega) (by omega)).symm)
    · exact rg_us_eq (fun i hi => (hMN (40 * q + i) (by omega) (by omega)).symm)
  have e0 : ∀ n, n ≤ fr → rg_pl M n = rg_pl N n := fun n hn => rg_pl_all n (fun q g hq hg => eo q g hq (by omega) (Or.inr (Or.inl (by omega))))
  have Y : ∀ (r : Int32) (us' sv' A B C : Nat → Int32), r = nI (rg_ct (rg_df sv N d) d) → rg_U N us' → (∀ j, j ≤ 40 → sv' j = nI (rg_pk (rg_pl N j))) → wpY_arrive (fun r' v' => r' = r ∧ i_Rel (k + 4) (nI d, ar', us', sv', A, B, C) v') (nI d, mv, pl', po', pa', bf) (nI p) (nI fr) (nI m) := by
    intro r us' sv' A B C hr hu hs
    exact ry_arr hp hfr (by omega) hd hM hN hV hS hz0 hMN hc (fun mv' A' B' C' bf' hv' => ⟨hr.symm, rg_mk ⟨hd, hN, hA', hu, hs, hv'⟩⟩)
  refine pk_le t fr (fun h => ?_) (fun h => ?_)
  · have ea : ∀ n, n ≤ 40 → sv n = nI (rg_pk (rg_pl N n)) := by
      intro n hn
      rw [hS n hn, rg_pl_all n (fun q g hq hg => eo q g hq (by omega) (by omega))]
    refine Y 0 us' sv pl po pa ?_ hU' ea
    rw [rg_ct_0 d (fun j hj => rg_df_0 (Or.inr (ea j (by omega))))]
    rfl
  · refine rx_replay hN hd t1 (by omega) hU' (fun n h1 h2 h3 => ?_) (fun j hj => ?_) (fun sv' A B C hs => ?_)
    · rw [hS n (by omega)] at h3
      have b1 := rg_pk_lt (rg_ok_pl M n)
      have b2 := rg_pk_lt (rg_ok_pl N n)
      have e1 : rg_pl M n = rg_pl N n := rg_pk_inj (rg_ok_pl M n) (rg_ok_pl N n) ((nI_eq (by omega) (by omega)).mp h3)
      rw [hS (n + 1) (by omega), rg_pl_eq e1 (eo 0 n (by decide) h2 (Or.inr (Or.inr h1))) (eo 1 n (by decide) h2 (Or.inr (Or.inr h1)))]
    · rw [hS j (by omega), e0 j hj]
    · dsimp only
      refine Y _ us' sv' A B C ?_ hU' hs
      have e := rg_ct_from (g := rg_df sv N d) (a := d) (40 - d) (fun j hj hj' => rg_df_0 (Or.inl hj))
      rw [show d + (40 - d) = 40 from by omega] at e
      rw [e]
theorem i_vc_tick {k : Nat} {u : SX} {v : SY} (I : i_Rel k u v) (hk : k + 4 ≤ 2048) : wpX_tick (fun r u' => wpY_tick (fun r' v' => r' = r ∧ i_Rel (k + 4) u' v') v) u := by
  obtain ⟨d, M, ar, us, sv, pl, po, pa, mv, pl', po', pa', bf, R, rfl, rfl⟩ := I
  have R' := R
  obtain ⟨hd, hM, hA, hU, hS, hV⟩ := R'
  unfold wpX_tick wpY_tick
  dsimp only
  rw [nI_1]
  by_cases h : d < 40
  · have h' : nI d < 40 := nI_lt (b := 40) h (by decide)
    refine br_t h' (fun x ex => br_t h' (fun y ey => ?_))
    rw [ex, ey]
    exact ⟨rfl, rg_mk ⟨by omega, hM, hA, hU, hS, hV⟩⟩
  · have h' : ¬ nI d < 40 := nI_nlt (b := 40) (by omega) (by omega)
    exact br_f h' (br_f h' ⟨rfl, rg_mk R⟩)
theorem i_vc_played {k : Nat} {u : SX} {v : SY} (I : i_Rel k u v) (hk : k + 4 ≤ 2048) : wpX_played (fun r => wpY_played (fun r' => r' = r ∧ i_Rel (k + 4) u v) v) u := by
  obtain ⟨d, M, ar, us, sv, pl, po, pa, mv, pl', po', pa', bf, R, rfl, rfl⟩ := I
  unfold wpX_played wpY_played
  exact ⟨rfl, rg_mk R⟩
theorem i_vc_sure {k : Nat} {u : SX} {v : SY} (I : i_Rel k u v) (hk : k + 4 ≤ 2048) : wpX_sure (fun r => wpY_sure (fun r' => r' = r ∧ i_Rel (k + 4) u v) v) u := by
  obtain ⟨d, M, ar, us, sv, pl, po, pa, mv, pl', po', pa', bf, R, rfl, rfl⟩ := I
  have R' := R
  obtain ⟨hd, hM, hA, hU, hS, hV⟩ := R'
  exact rx_sure hA (fun a ha => ry_sure hM hV (fun b hb => ⟨congrArg nI (rg_su_u hb ha), rg_mk R⟩))
theorem i_vc_position {k : Nat} {u : SX} {v : SY} (I : i_Rel k u v) (hk : k + 4 ≤ 2048) (v1 : Int32) : wpX_position (fun r u' => wpY_position (fun r' v' => r' = r ∧ i_Rel (k + 4) u' v') v v1) u v1 := by
  obtain ⟨d, M, ar, us, sv, pl, po, pa, mv, pl', po', pa', bf, R, rfl, rfl⟩ := I
  have R' := R
  obtain ⟨hd, hM, hA, hU, hS, hV⟩ := R'
  unfold wpX_position wpY_position
  dsimp only
  rcases rg_pr v1 with ⟨p, hp, rfl⟩ | ⟨n0, n1⟩
  · rw [nI_clamp (n := d) (by omega), hS d hd]
    refine rx_p1 hp (br_f (by decide) ⟨vp_in_nI (by omega) (by decide), rx_load (rg_ok_pl M d) (fun A B C fd => ?_)⟩)
    dsimp only
    refine ⟨vp_in_nI hp (by decide), ry_play hd hM hV (fun A' B' C' fd' => ?_)⟩
    dsimp only
    refine ry_p1 hp (br_f (by decide) ⟨vp_in_nI hp (by decide), ?_, rg_mk R⟩)
    rw [nI_clamp (by omega)]
    generalize rg_pl M d = F at fd fd'
    obtain ⟨p0, p1, q0, q1, r0, r1⟩ := F
    rcases (show p = 0 ∨ p = 1 by omega) with e | e
    · rw [e]
      exact fd'.1.1.trans fd.1.1.symm
    · rw [e]
      exact fd'.1.2.trans fd.1.2.symm
  · refine rx_p0 n0 n1 (br_t rfl (ry_play hd hM hV (fun A' B' C' fd' => ?_)))
    dsimp only
    exact ry_p0 n0 n1 (br_t rfl ⟨rfl, rg_mk R⟩)
theorem i_vc_strength {k : Nat} {u : SX} {v : SY} (I : i_Rel k u v) (hk : k + 4 ≤ 2048) (v1 : Int32) : wpX_strength (fun r u' => wpY_strength (fun r' v' => r' = r ∧ i_Rel (k + 4) u' v') v v1) u v1 := by
  obtain ⟨d, M, ar, us, sv, pl, po, pa, mv, pl', po', pa', bf, R, rfl, rfl⟩ := I
  have R' := R
  obtain ⟨hd, hM, hA, hU, hS, hV⟩ := R'
  unfold wpX_strength wpY_strength
  dsimp only
  rcases rg_pr v1 with ⟨p, hp, rfl⟩ | ⟨n0, n1⟩
  · rw [nI_clamp (n := d) (by omega), hS d hd]
    refine rx_p1 hp (br_f (by decide) ⟨vp_in_nI (by omega) (by decide), rx_load (rg_ok_pl M d) (fun A B C fd => ?_)⟩)
    dsimp only
    refine ⟨vp_in_nI hp (by decide), ry_play hd hM hV (fun A' B' C' fd' => ?_)⟩
    dsimp only
    refine ry_p1 hp (br_f (by decide) ⟨vp_in_nI hp (by decide), ?_, rg_mk R⟩)
    rw [nI_clamp (by omega)]
    generalize rg_pl M d = F at fd fd'
    obtain ⟨p0, p1, q0, q1, r0, r1⟩ := F
    rcases (show p = 0 ∨ p = 1 by omega) with e | e
    · rw [e]
      exact fd'.2.1.1.trans fd.2.1.1.symm
    · rw [e]
      exact fd'.2.1.2.trans fd.2.1.2.symm
  · refine rx_p0 n0 n1 (br_t rfl (ry_play hd hM hV (fun A' B' C' fd' => ?_)))
    dsimp only
    exact ry_p0 n0 n1 (br_t rfl ⟨rfl, rg_mk R⟩)
theorem i_vc_pause {k : Nat} {u : SX} {v : SY} (I : i_Rel k u v) (hk : k + 4 ≤ 2048) (v1 : Int32) : wpX_pause (fun r u' => wpY_pause (fun r' v' => r' = r ∧ i_Rel (k + 4) u' v') v v1) u v1 := by
  obtain ⟨d, M, ar, us, sv, pl, po, pa, mv, pl', po', pa', bf, R, rfl, rfl⟩ := I
  have R' := R
  obtain ⟨hd, hM, hA, hU, hS, hV⟩ := R'
  unfold wpX_pause wpY_pause
  dsimp only
  rcases rg_pr v1 with ⟨p, hp, rfl⟩ | ⟨n0, n1⟩
  · rw [nI_clamp (n := d) (by omega), hS d hd]
    refine rx_p1 hp (br_f (by decide) ⟨vp_in_nI (by omega) (by decide), rx_load (rg_ok_pl M d) (fun A B C fd => ?_)⟩)
    dsimp only
    refine ⟨vp_in_nI hp (by decide), ry_play hd hM hV (fun A' B' C' fd' => ?_)⟩
    dsimp only
    refine ry_p1 hp (br_f (by decide) ⟨vp_in_nI hp (by decide), ?_, rg_mk R⟩)
    rw [nI_clamp (by omega)]
    generalize rg_pl M d = F at fd fd'
    obtain ⟨p0, p1, q0, q1, r0, r1⟩ := F
    rcases (show p = 0 ∨ p = 1 by omega) with e | e
    · rw [e]
      exact fd'.2.2.1.trans fd.2.2.1.symm
    · rw [e]
      exact fd'.2.2.2.trans fd.2.2.2.symm
  · refine rx_p0 n0 n1 (br_t rfl (ry_play hd hM hV (fun A' B' C' fd' => ?_)))
    dsimp only
    exact ry_p0 n0 n1 (br_t rfl ⟨rfl, rg_mk R⟩)
theorem rg_ix41 (x : Int32) : x < 0 ∨ (¬ x < 0 ∧ ¬ x ≤ 40) ∨ ∃ j : Nat, j ≤ 40 ∧ x = nI j := by
  by_cases h : x < 0
  · exact Or.inl h
  · by_cases h2 : x ≤ 40
    · exact Or.inr (Or.inr (nI_of2 (M := 40) (n := 40) (by decide) h h2))
    · exact Or.inr (Or.inl ⟨h, h2⟩)
theorem i_vc_shown {k : Nat} {u : SX} {v : SY} (I : i_Rel k u v) (hk : k + 4 ≤ 2048) (v1 : Int32) : wpX_shown (fun r => wpY_shown (fun r' v' => r' = r ∧ i_Rel (k + 4) u v') v v1) u v1 := by
  obtain ⟨d, M, ar, us, sv, pl, po, pa, mv, pl', po', pa', bf, R, rfl, rfl⟩ := I
  have R' := R
  obtain ⟨hd, hM, hA, hU, hS, hV⟩ := R'
  unfold wpX_shown wpY_shown
  dsimp only
  rcases rg_ix41 v1 with h | ⟨h, h'⟩ | ⟨n, hn, rfl⟩
  · exact br_t h (br_t h ⟨rfl, rg_mk R⟩)
  · exact br_f h (br_f h' (br_f h (br_f h' ⟨rfl, rg_mk R⟩)))
  · have h : ¬ nI n < 0 := nI_pos (by omega)
    have h' : nI n ≤ 40 := nI_le (b := 40) hn (by decide)
    rw [nI_clamp (by omega), hS n hn]
    refine br_f h (br_t h' ⟨vp_in_nI (by omega) (by decide), br_f h (br_t h' (ry_pic hn hM hV (fun A B C => ?_)))⟩)
    dsimp only
    exact ⟨rfl, rg_mk R⟩
theorem i_vc_move {k : Nat} {u : SX} {v : SY} (I : i_Rel k u v) (hk : k + 4 ≤ 2048) (v1 : Int32) (v2 : Int32) : wpX_move (fun r => wpY_move (fun r' => r' = r ∧ i_Rel (k + 4) u v) v v1 v2) u v1 v2 := by
  obtain ⟨d, M, ar, us, sv, pl, po, pa, mv, pl', po', pa', bf, R, rfl, rfl⟩ := I
  have R' := R
  obtain ⟨hd, hM, hA, hU, hS, hV⟩ := R'
  unfold wpX_move wpY_move
  dsimp only
  rcases rg_pr v1 with ⟨p, hp, rfl⟩ | ⟨n0, n1⟩
  case inr => exact rx_p0 n0 n1 (br_t rfl (ry_p0 n0 n1 (br_t rfl ⟨rfl, rg_mk R⟩)))
  refine rx_p1 hp (br_f (by decide) ?_)
  by_cases hf : v2 < 0 ∨ nI 40 ≤ v2
  · exact rx_f0 hf (br_t rfl (ry_p1 hp (br_f (by decide) (ry_f0 hf (br_t rfl ⟨rfl, rg_mk R⟩)))))
  obtain ⟨fr, hfr, rfl⟩ : ∃ fr : Nat, fr < 40 ∧ v2 = nI fr := by
    rcases pk_ix v2 (n := 40) (by decide) with h | h | h
    · exact absurd (Or.inl h) hf
    · exact absurd (Or.inr h) hf
    · exact h
  rw [rg_ix, nI_clamp (by omega), hU p fr hp hfr]
  exact rx_f1 hfr (br_f (by decide) ⟨vp_in_nI (by omega) (by decide), ry_p1 hp (br_f (by decide) (ry_f1 hfr (br_f (by decide) (ry_used hp hfr hM hV ⟨rfl, rg_mk R⟩))))⟩)
theorem i_vc_missing {k : Nat} {u : SX} {v : SY} (I : i_Rel k u v) (hk : k + 4 ≤ 2048) (v1 : Int32) : wpX_missing (fun r => wpY_missing (fun r' => r' = r ∧ i_Rel (k + 4) u v) v v1) u v1 := by
  obtain ⟨d, M, ar, us, sv, pl, po, pa, mv, pl', po', pa', bf, R, rfl, rfl⟩ := I
  have R' := R
  obtain ⟨hd, hM, hA, hU, hS, hV⟩ := R'
  unfold wpX_missing
  dsimp only
  rcases rg_pr v1 with ⟨p, hp, rfl⟩ | ⟨n0, n1⟩
  case inr => exact rx_p0 n0 n1 (br_t rfl (ry_mi0 n0 n1 ⟨rfl, rg_mk R⟩))
  refine rx_p1 hp (br_f (by decide) (rx_fm hp hA (fun a a0 a1 a2 => pk_le 40 a (fun h => ry_mi hp hM hV (fun b b0 b1 b2 => ?_) (fun _ => ⟨rfl, rg_mk R⟩)) (fun h => ry_mi hp hM hV (fun b b0 b1 b2 => ?_) (fun b1 => ?_)))))
  · have := a1 b (by omega)
    omega
  · refine ⟨congrArg nI ?_, rg_mk R⟩
    rcases Nat.lt_trichotomy b a with z | z | z
    · have := a1 b z
      omega
    · exact z
    · have := b1 a z
      have := a2 h
      omega
  · have := b1 a h
    have := a2 h
    omega
theorem i_vc_winner {k : Nat} {u : SX} {v : SY} (I : i_Rel k u v) (hk : k + 4 ≤ 2048) (v1 : Int32) : wpX_winner (fun r u' => wpY_winner (fun r' v' => r' = r ∧ i_Rel (k + 4) u' v') v v1) u v1 := by
  obtain ⟨d, M, ar, us, sv, pl, po, pa, mv, pl', po', pa', bf, R, rfl, rfl⟩ := I
  have R' := R
  obtain ⟨hd, hM, hA, hU, hS, hV⟩ := R'
  unfold wpX_winner
  dsimp only
  rcases rg_ix41 v1 with h | ⟨h, h'⟩ | ⟨n, hn, rfl⟩
  · exact br_t h (ry_win0 (Or.inl h) ⟨rfl, rg_mk R⟩)
  · exact br_f h (br_f h' (ry_win0 (Or.inr ⟨h, h'⟩) ⟨rfl, rg_mk R⟩))
  · have h : ¬ nI n < 0 := nI_pos (by omega)
    have h' : nI n ≤ 40 := nI_le (b := 40) hn (by decide)
    have hin : vp_in (nI n) 41 := vp_in_nI (by omega) (by decide)
    have W : ∀ (r : Int32) (A B C : Nat → Int32), rg_wn (rg_pl M n) = r → wpY_winner (fun r' v' => r' = r ∧ i_Rel (k + 4) (nI d, ar, us, sv, A, B, C) v') (nI d, mv, pl', po', pa', bf) (nI n) := fun r A B C hr => ry_win hn hM hV (fun A' B' C' => ⟨hr, rg_mk R⟩)
    have ok := rg_ok_pl M n
    rw [nI_clamp (by omega), hS n hn]
    generalize rg_pl M n = F at W ok
    obtain ⟨p0, p1, q0, q1, r0, r1⟩ := F
    have h2 : q0 < 10 := ok.2.2.1
    have h3 : q1 < 10 := ok.2.2.2.1
    refine br_f h (br_t h' ⟨hin, rx_over ok (fun ho => br_f (by decide) ⟨hin, rx_load ok (fun A B C fd => ?_)⟩) (fun ho => br_t rfl (W _ _ _ _ ?_))⟩)
    · dsimp only
      have ho' : q0 = 0 ∨ q1 = 0 := of_decide_eq_true ho
      rw [fd.2.1.1, fd.2.1.2]
      refine pk_eq q0 0 (fun a => pk_eq q1 0 (fun b => W _ _ _ _ ?_) (fun b => W _ _ _ _ ?_)) (fun a => W _ _ _ _ ?_)
      · unfold rg_wn
        dsimp only
        rw [if_pos a, if_pos b]
      · unfold rg_wn
        dsimp only
        rw [if_pos a, if_neg b]
      · unfold rg_wn
        dsimp only
        rw [if_neg a, if_pos (by omega)]
    · have ho' : ¬ (q0 = 0 ∨ q1 = 0) := of_decide_eq_false ho
      unfold rg_wn
      dsimp only
      rw [if_neg (by omega), if_neg (by omega)]
theorem i_vc_overAfter {k : Nat} {u : SX} {v : SY} (I : i_Rel k u v) (hk : k + 4 ≤ 2048) : wpX_overAfter (fun r => wpY_overAfter (fun r' v' => r' = r ∧ i_Rel (k + 4) u v') v) u := by
  obtain ⟨d, M, ar, us, sv, pl, po, pa, mv, pl', po', pa', bf, R, rfl, rfl⟩ := I
  have R' := R
  obtain ⟨hd, hM, hA, hU, hS, hV⟩ := R'
  refine rx_oa hS (fun a a0 a1 a2 => ry_oa hM hV (fun b A B C b0 b1 b2 => ⟨congrArg nI ?_, rg_mk R⟩) (fun A B C b1 => ?_)) (fun a1 => ry_oa hM hV (fun b A B C b0 b1 b2 => ?_) (fun A B C _ => ⟨rfl, rg_mk R⟩))
  · rcases Nat.lt_trichotomy b a with z | z | z
    · exact absurd ((a1 b z).symm.trans b2) (by decide)
    · exact z
    · exact absurd ((b1 a z).symm.trans a2) (by decide)
  · exact absurd ((b1 a (by omega)).symm.trans a2) (by decide)
  · exact absurd ((a1 b (by omega)).symm.trans b2) (by decide)
theorem i_vc_settled {k : Nat} {u : SX} {v : SY} (I : i_Rel k u v) (hk : k + 4 ≤ 2048) : wpX_settled (fun r => wpY_settled (fun r' v' => r' = r ∧ i_Rel (k + 4) u v') v) u := by
  obtain ⟨d, M, ar, us, sv, pl, po, pa, mv, pl', po', pa', bf, R, rfl, rfl⟩ := I
  have R' := R
  obtain ⟨hd, hM, hA, hU, hS, hV⟩ := R'
  unfold wpX_settled
  dsimp only
  refine rx_sure hA (fun n su => ?_)
  have hn : n ≤ 40 := su.1
  rw [nI_clamp (by omega), hS n hn]
  refine pk_le d n (fun h => ry_set hd hM hV su (fun A B C _ => ⟨rfl, rg_mk R⟩) (fun A B C h' _ => absurd h (by omega))) (fun h => ⟨vp_in_nI (by omega) (by decide), rx_over (rg_ok_pl M n) (fun ho => br_f (by decide) (ry_set hd hM hV su (fun A B C _ => ⟨rfl, rg_mk R⟩) (fun A B C _ ho' => absurd (ho.symm.trans ho') (by decide)))) (fun ho => br_t rfl (ry_set hd hM hV su (fun A B C h' => ?_) (fun A B C _ _ => ⟨rfl, rg_mk R⟩)))⟩)
  rcases h' with h' | h'
  · exact absurd h' (by omega)
  · exact absurd (ho.symm.trans h') (by decide)
end
