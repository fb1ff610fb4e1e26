section
/-! rows of kit/rows, pasted -/
theorem pk_us {f : Nat → Int32} {k : Nat} {x : Int32} : upd f k x k = x := if_pos rfl
theorem pk_un {f : Nat → Int32} {k j : Nat} {x : Int32} (h : j ≠ k) : upd f k x j = f j := if_neg h
theorem pk_sub {a b : Nat} (h : b ≤ a) : nI a - nI b = nI (a - b) := by
  obtain ⟨c, rfl⟩ : ∃ c, a = c + b := ⟨a - b, by omega⟩
  rw [← nI_add, Int32.add_sub_cancel, Nat.add_sub_cancel]
theorem pk_m1 (n : Nat) : nI (n + 1) + (-1) = nI n := by
  rw [← nI_1, Int32.add_assoc, show (1 : Int32) + (-1) = 0 from rfl, Int32.add_zero]
theorem pk_mul (a b : Nat) : nI a * nI b = nI (a * b) := (Int32.ofNat_mul a b).symm
theorem pk_div {a d : Nat} (ha : a < 2 ^ 31) (h0 : 0 < d) (hd : d < 2 ^ 31) : nI a / nI d = nI (a / d) := by
  apply Int32.toInt_inj.mp
  rw [lg_idiv_nonneg (by rw [nI_toInt ha]; omega) (by rw [nI_toInt hd]; omega), nI_toInt ha, nI_toInt hd, nI_toInt (Nat.lt_of_le_of_lt (Nat.div_le_self a d) ha)]
  first | rfl | exact (Int.natCast_ediv _ _).symm
theorem pk_rem {a d : Nat} (ha : a < 2 ^ 31) (h0 : 0 < d) (hd : d < 2 ^ 31) : nI a - nI a / nI d * nI d = nI (a % d) := by
  rw [pk_div ha h0 hd, pk_mul, pk_sub (Nat.div_mul_le_self a d)]
  exact congrArg nI (by have := Nat.div_add_mod' a d; omega)
theorem pk_sub_toInt {a b : Nat} (ha : a < 2 ^ 30) (hb : b < 2 ^ 30) : (nI a - nI b).toInt = (a : Int) - b := by
  rw [Int32.toInt_sub, nI_toInt (by omega), nI_toInt (by omega)]
  exact Int.bmod_eq_of_le (by omega) (by omega)
theorem pk_sneg {a b : Nat} (hb : b < 2 ^ 30) (h : a < b) : nI a - nI b < 0 := by
  rw [Int32.lt_iff_toInt_lt, pk_sub_toInt (by omega) hb, show (0 : Int32).toInt = 0 from by decide]
  omega
theorem pk_ix (x : Int32) {n : Nat} (hn : n < 2 ^ 31) : x < 0 ∨ nI n ≤ x ∨ ∃ j : Nat, j < n ∧ x = nI j := by
  by_cases h : x < 0
  · exact Or.inl h
  · obtain ⟨j, hj, rfl⟩ := nI_of h
    by_cases h2 : j < n
    · exact Or.inr (Or.inr ⟨j, h2, rfl⟩)
    · exact Or.inr (Or.inl (nI_le (by omega) hj))
theorem pk_le {x y : Int32} {A B : Prop} (a b : Nat) (f : a ≤ b → A) (g : b < a → B) (hx : x = nI a := by rfl) (hy : y = nI b := by rfl) (ha : a < 2 ^ 31 := by omega) (hb : b < 2 ^ 31 := by omega) : (x ≤ y → A) ∧ (¬ x ≤ y → B) := by
  subst hx hy
  rw [nI_leI ha hb]
  exact ⟨f, fun z => g (by omega)⟩
theorem pk_lt {x y : Int32} {A B : Prop} (a b : Nat) (f : a < b → A) (g : b ≤ a → B) (hx : x = nI a := by rfl) (hy : y = nI b := by rfl) (ha : a < 2 ^ 31 := by omega) (hb : b < 2 ^ 31 := by omega) : (x < y → A) ∧ (¬ x < y → B) := by
  subst hx hy
  rw [nI_ltI ha hb]
  exact ⟨f, fun z => g (by omega)⟩
theorem pk_eq {x y : Int32} {A B : Prop} (a b : Nat) (f : a = b → A) (g : a ≠ b → B) (hx : x = nI a := by rfl) (hy : y = nI b := by rfl) (ha : a < 2 ^ 31 := by omega) (hb : b < 2 ^ 31 := by omega) : (x = y → A) ∧ (¬ x = y → B) := by
  subst hx hy
  rw [nI_eq ha hb]
  exact ⟨f, g⟩
theorem pk_in {x : Int32} (n N : Nat) (h : n < N) (hx : x = nI n := by rfl) (hN : N < 2 ^ 31 := by omega) : vp_in x N := by
  subst hx
  exact vp_in_nI h hN
theorem pk_cl {x : Int32} (n : Nat) (hx : x = nI n := by rfl) (h : n < 2 ^ 31 := by omega) : x.toNatClampNeg = n := by
  subst hx
  exact nI_clamp h
theorem pk_tn {n : Nat} (h : n < 2 ^ 32) : (nI n).toBitVec.toNat = n := Nat.mod_eq_of_lt h
theorem pk_and (x : Int32) {m : Int32} (k : Nat) (hm : m.toBitVec.toNat = 2 ^ k - 1) : x &&& m = nI (x.toBitVec.toNat % 2 ^ k) := by
  apply Int32.toBitVec_inj.mp
  apply BitVec.eq_of_toNat_eq
  rw [Int32.toBitVec_and, BitVec.toNat_and, hm, Nat.and_two_pow_sub_one_eq_mod]
  show _ = (BitVec.ofNat 32 _).toNat
  rw [BitVec.toNat_ofNat]
  exact (Nat.mod_eq_of_lt (Nat.lt_of_le_of_lt (Nat.mod_le _ _) x.toBitVec.isLt)).symm
theorem pk_andN {n : Nat} (h : n < 2 ^ 32) {m : Int32} (k : Nat) (hm : m.toBitVec.toNat = 2 ^ k - 1) : nI n &&& m = nI (n % 2 ^ k) := by
  rw [pk_and _ k hm, pk_tn h]
theorem pk_least (P : Nat → Prop) (h : ∃ k, P k) : ∃ k, P k ∧ ∀ j, j < k → ¬ P j := by
  obtain ⟨k, hk⟩ := h
  induction k using Nat.strongRecOn with
  | ind k ih =>
    by_cases e : ∃ j, j < k ∧ P j
    · obtain ⟨j, hj, pj⟩ := e
      exact ih j hj pj
    · exact ⟨k, hk, fun j hj pj => e ⟨j, hj, pj⟩⟩
end
section
/-! arrays of naturals and of booleans; counts; geometry -/
def ar_N (f : Nat → Nat) : Nat → Int32 := fun j => nI (f j)
def ar_B (b : Nat → Bool) : Nat → Int32 := fun j => if b j = true then 1 else 0
def ar_u {α : Type} (f : Nat → α) (k : Nat) (x : α) : Nat → α := fun j => if j = k then x else f j
theorem ar_us {α : Type} {f : Nat → α} {k : Nat} {x : α} : ar_u f k x k = x := if_pos rfl
theorem ar_un {α : Type} {f : Nat → α} {k j : Nat} {x : α} (h : j ≠ k) : ar_u f k x j = f j := if_neg h
theorem ar_updN (f : Nat → Nat) (k x : Nat) : upd (ar_N f) k (nI x) = ar_N (ar_u f k x) := by
  funext j
  show (if j = k then nI x else nI (f j)) = nI (if j = k then x else f j)
  by_cases h : j = k
  · rw [if_pos h, if_pos h]
  · rw [if_neg h, if_neg h]
theorem ar_updB1 (b : Nat → Bool) (k : Nat) : upd (ar_B b) k (vp_nar .boolean 1) = ar_B (ar_u b k true) := by
  funext j
  show (if j = k then (1 : Int32) else (if b j = true then 1 else 0)) = (if (if j = k then true else b j) = true then 1 else 0)
  by_cases h : j = k
  · rw [if_pos h, if_pos h]; rfl
  · rw [if_neg h, if_neg h]
theorem ar_updB0 (b : Nat → Bool) (k : Nat) : upd (ar_B b) k (vp_nar .boolean 0) = ar_B (ar_u b k false) := by
  funext j
  show (if j = k then (0 : Int32) else (if b j = true then 1 else 0)) = (if (if j = k then false else b j) = true then 1 else 0)
  by_cases h : j = k
  · rw [if_pos h, if_pos h]; rfl
  · rw [if_neg h, if_neg h]
/-- a boolean as an int -/
def ar_b (b : Bool) : Int32 := if b = true then 1 else 0
theorem ar_updB (b : Nat → Bool) (k : Nat) (x : Bool) : upd (ar_B b) k (vp_nar .boolean (ar_b x)) = ar_B (ar_u b k x) := by
  cases x
  · exact ar_updB0 b k
  · exact ar_updB1 b k
theorem ar_N0 : (fun _ => 0 : Nat → Int32) = ar_N (fun _ => 0) := rfl
theorem ar_B0 : (fun _ => 0 : Nat → Int32) = ar_B (fun _ => false) := rfl
theorem ar_Bt {b : Nat → Bool} {j : Nat} (h : b j = true) : ¬ ar_B b j = 0 := by
  show ¬ (if b j = true then (1 : Int32) else 0) = 0
  rw [if_pos h]; decide
theorem ar_Bf {b : Nat → Bool} {j : Nat} (h : b j = false) : ar_B b j = 0 := by
  show (if b j = true then (1 : Int32) else 0) = 0
  rw [h]; rfl
theorem ar_Be {b : Nat → Bool} {j : Nat} : ar_B b j = ar_b (b j) := rfl
theorem ar_bt {b : Bool} (h : b = true) : ¬ ar_b b = 0 := by subst h; decide
theorem ar_bf {b : Bool} (h : b = false) : ar_b b = 0 := by subst h; rfl
theorem ar_bi {a b : Bool} : ar_b a = ar_b b ↔ a = b := by cases a <;> cases b <;> decide
/-- a branch on a boolean cell -/
theorem ar_br {b : Nat → Bool} {x : Int32} {A B : Prop} (j : Nat) (hx : x.toNatClampNeg = j) (f : b j = false → A) (g : b j = true → B) : (ar_B b x.toNatClampNeg = 0 → A) ∧ (¬ ar_B b x.toNatClampNeg = 0 → B) := by
  rw [hx]
  cases h : b j
  · exact br_t (ar_Bf h) (f h)
  · exact br_f (ar_Bt h) (g h)
theorem ar_brb {b : Bool} {A B : Prop} (f : b = false → A) (g : b = true → B) : (ar_b b = 0 → A) ∧ (¬ ar_b b = 0 → B) := by
  cases h : b
  · exact br_t (ar_bf rfl) (f h)
  · exact br_f (ar_bt rfl) (g h)
theorem ar_at {f : Nat → Nat} {x : Int32} {j : Nat} (hx : x.toNatClampNeg = j) : ar_N f x.toNatClampNeg = nI (f j) := by rw [hx]; rfl
theorem ar_m1 {n : Nat} (h : n < 2 ^ 31) : ¬ nI n = -1 := by
  intro e
  have h2 := congrArg Int32.toInt e
  rw [nI_toInt h, show (-1 : Int32).toInt = -1 from by decide] at h2
  omega
/-- counts -/
def cn_t (f : Nat → Bool) : Nat → Nat
  | 0 => 0
  | n + 1 => cn_t f n + (if f n = true then 1 else 0)
theorem cn_le (f : Nat → Bool) : ∀ n, cn_t f n ≤ n
  | 0 => Nat.le_refl 0
  | n + 1 => by
    have h := cn_le f n
    show cn_t f n + (if f n = true then 1 else 0) ≤ n + 1
    split <;> omega
theorem cn_congr {f g : Nat → Bool} : ∀ n, (∀ j, j < n → f j = g j) → cn_t f n = cn_t g n
  | 0, _ => rfl
  | n + 1, h => by
    show cn_t f n + (if f n = true then 1 else 0) = cn_t g n + (if g n = true then 1 else 0)
    rw [cn_congr n (fun j hj => h j (by omega)), h n (by omega)]
theorem cn_mono {f g : Nat → Bool} : ∀ n, (∀ j, j < n → f j = true → g j = true) → cn_t f n ≤ cn_t g n
  | 0, _ => Nat.le_refl 0
  | n + 1, h => by
    have h1 := cn_mono n (fun j hj => h j (by omega))
    have h2 := h n (by omega)
    show cn_t f n + (if f n = true then 1 else 0) ≤ cn_t g n + (if g n = true then 1 else 0)
    by_cases hf : f n = true
    · rw [if_pos hf, if_pos (h2 hf)]; omega
    · rw [if_neg hf]; omega
theorem cn_drop {f g : Nat → Bool} {k : Nat} (hf : f k = true) (hg : g k = false) : ∀ n, k < n → (∀ j, j < n → j ≠ k → f j = g j) → cn_t g n + 1 = cn_t f n
  | 0, h, _ => absurd h (Nat.not_lt_zero k)
  | n + 1, hk, h => by
    show cn_t g n + (if g n = true then 1 else 0) + 1 = cn_t f n + (if f n = true then 1 else 0)
    by_cases e : k = n
    · subst e
      rw [hf, hg, cn_congr (f := f) (g := g) k (fun j hj => h j (by omega) (by omega))]
      rfl
    · rw [← cn_drop hf hg n (by omega) (fun j hj hne => h j (by omega) hne), h n (by omega) (fun z => e z.symm)]
      omega
theorem cn_more {f g : Nat → Bool} {k : Nat} (hf : f k = false) (hg : g k = true) : ∀ n, k < n → (∀ j, j < n → f j = true → g j = true) → cn_t f n + 1 ≤ cn_t g n
  | 0, h, _ => absurd h (Nat.not_lt_zero k)
  | n + 1, hk, h => by
    show cn_t f n + (if f n = true then 1 else 0) + 1 ≤ cn_t g n + (if g n = true then 1 else 0)
    by_cases e : k = n
    · subst e
      have h1 := cn_mono k (fun j hj => h j (by omega))
      rw [hf, hg]
      show cn_t f k + 0 + 1 ≤ cn_t g k + 1
      omega
    · have h1 := cn_more hf hg n (by omega) (fun j hj => h j (by omega))
      have h2 := h n (by omega)
      by_cases hfn : f n = true
      · rw [if_pos hfn, if_pos (h2 hfn)]; omega
      · rw [if_neg hfn]; omega
theorem cn_all {f : Nat → Bool} : ∀ n, n ≤ cn_t f n → ∀ j, j < n → f j = true
  | 0, _, j, hj => absurd hj (Nat.not_lt_zero j)
  | n + 1, h, j, hj => by
    have h1 := cn_le f n
    have h2 : n + 1 ≤ cn_t f n + (if f n = true then 1 else 0) := h
    by_cases hf : f n = true
    · rw [if_pos hf] at h2
      by_cases e : j = n
      · subst e; exact hf
      · exact cn_all n (by omega) j (by omega)
    · rw [if_neg hf] at h2; omega
theorem cn_zero {f : Nat → Bool} : ∀ n, cn_t f n = 0 → ∀ j, j < n → f j = false
  | 0, _, j, hj => absurd hj (Nat.not_lt_zero j)
  | n + 1, h, j, hj => by
    have h2 : cn_t f n + (if f n = true then 1 else 0) = 0 := h
    by_cases hf : f n = true
    · rw [if_pos hf] at h2; omega
    · by_cases e : j = n
      · subst e; exact Bool.not_eq_true _ ▸ hf
      · exact cn_zero n (by omega) j (by omega)
theorem cn_pos {f : Nat → Bool} {n k : Nat} (hk : k < n) (h : f k = true) : 1 ≤ cn_t f n := by
  by_cases e : cn_t f n = 0
  · have := cn_zero n e k hk
    rw [h] at this
    exact absurd this (by decide)
  · omega
theorem cn_s {f : Nat → Bool} {n : Nat} (h : f n = true) : cn_t f (n + 1) = cn_t f n + 1 := by
  show cn_t f n + (if f n = true then 1 else 0) = _
  rw [if_pos h]
theorem cn_n {f : Nat → Bool} {n : Nat} (h : f n = false) : cn_t f (n + 1) = cn_t f n := by
  show cn_t f n + (if f n = true then 1 else 0) = _
  rw [h]; rfl
end
section
/-! geometry: places 0 .. 431, six ways -/
def ge_nb (p w : Nat) : Option Nat :=
  if w = 0 then (if p % 6 = 0 then none else some (p - 1))
  else if w = 1 then (if p % 6 = 5 then none else some (p + 1))
  else if w = 2 then (if p / 6 % 6 = 0 then none else some (p - 6))
  else if w = 3 then (if p / 6 % 6 = 5 then none else some (p + 6))
  else if w = 4 then (if p / 36 % 6 = 0 then none else some (p - 36))
  else (if p / 36 % 6 = 5 then none else some (p + 36))
theorem ge_0 (p : Nat) : ge_nb p 0 = if p % 6 = 0 then none else some (p - 1) := rfl
theorem ge_1 (p : Nat) : ge_nb p 1 = if p % 6 = 5 then none else some (p + 1) := rfl
theorem ge_2 (p : Nat) : ge_nb p 2 = if p / 6 % 6 = 0 then none else some (p - 6) := rfl
theorem ge_3 (p : Nat) : ge_nb p 3 = if p / 6 % 6 = 5 then none else some (p + 6) := rfl
theorem ge_4 (p : Nat) : ge_nb p 4 = if p / 36 % 6 = 0 then none else some (p - 36) := rfl
theorem ge_5 (p : Nat) : ge_nb p 5 = if p / 36 % 6 = 5 then none else some (p + 36) := rfl
def ge_adj (p q : Nat) : Prop := ∃ w, w < 6 ∧ ge_nb p w = some q
theorem ge_opt {c : Prop} [Decidable c] {a q : Nat} : ((if c then none else some a) = some q) ↔ (¬ c ∧ q = a) := by
  by_cases h : c
  · rw [if_pos h]; exact ⟨(fun z => nomatch z), fun z => absurd h z.1⟩
  · rw [if_neg h]; exact ⟨fun z => ⟨h, (Option.some.inj z).symm⟩, fun z => by rw [z.2]⟩
theorem ge_w {w : Nat} (h : w < 6) : w = 0 ∨ w = 1 ∨ w = 2 ∨ w = 3 ∨ w = 4 ∨ w = 5 := by omega
theorem ge_iff {p q : Nat} : ge_adj p q ↔ (¬ p % 6 = 0 ∧ q = p - 1) ∨ (¬ p % 6 = 5 ∧ q = p + 1) ∨ (¬ p / 6 % 6 = 0 ∧ q = p - 6) ∨ (¬ p / 6 % 6 = 5 ∧ q = p + 6) ∨ (¬ p / 36 % 6 = 0 ∧ q = p - 36) ∨ (¬ p / 36 % 6 = 5 ∧ q = p + 36) := by
  constructor
  · rintro ⟨w, hw, h⟩
    rcases ge_w hw with rfl | rfl | rfl | rfl | rfl | rfl
    · rw [ge_0, ge_opt] at h; exact Or.inl h
    · rw [ge_1, ge_opt] at h; exact Or.inr (Or.inl h)
    · rw [ge_2, ge_opt] at h; exact Or.inr (Or.inr (Or.inl h))
    · rw [ge_3, ge_opt] at h; exact Or.inr (Or.inr (Or.inr (Or.inl h)))
    · rw [ge_4, ge_opt] at h; exact Or.inr (Or.inr (Or.inr (Or.inr (Or.inl h))))
    · rw [ge_5, ge_opt] at h; exact Or.inr (Or.inr (Or.inr (Or.inr (Or.inr h))))
  · rintro (h | h | h | h | h | h)
    · exact ⟨0, by decide, by rw [ge_0, ge_opt]; exact h⟩
    · exact ⟨1, by decide, by rw [ge_1, ge_opt]; exact h⟩
    · exact ⟨2, by decide, by rw [ge_2, ge_opt]; exact h⟩
    · exact ⟨3, by decide, by rw [ge_3, ge_opt]; exact h⟩
    · exact ⟨4, by decide, by rw [ge_4, ge_opt]; exact h⟩
    · exact ⟨5, by decide, by rw [ge_5, ge_opt]; exact h⟩
theorem ge_sym {p q : Nat} (h : ge_adj p q) : ge_adj q p := by
  rw [ge_iff] at h ⊢
  rcases h with h | h | h | h | h | h <;> omega
theorem ge_lt2 {p q : Nat} (h : ge_adj p q) (hp : p < 216) : q < 216 := by
  rw [ge_iff] at h
  rcases h with h | h | h | h | h | h <;> omega
theorem ge_lt4 {p q : Nat} (h : ge_adj p q) (hp : p < 432) : q < 432 := by
  rw [ge_iff] at h
  rcases h with h | h | h | h | h | h <;> omega
theorem ge_ge2 {p q : Nat} (h : ge_adj p q) (hp : 216 ≤ p) : 216 ≤ q := by
  rw [ge_iff] at h
  rcases h with h | h | h | h | h | h <;> omega
theorem ge_up {p q : Nat} (h : ge_adj p q) : ge_adj (216 + p) (216 + q) := by
  rw [ge_iff] at h ⊢
  rcases h with h | h | h | h | h | h <;> omega
theorem ge_dn {p q : Nat} (h : ge_adj (216 + p) (216 + q)) : ge_adj p q := by
  rw [ge_iff] at h ⊢
  rcases h with h | h | h | h | h | h <;> omega
theorem ge_ofnb {p w q : Nat} (hw : w < 6) (h : ge_nb p w = some q) : ge_adj p q := ⟨w, hw, h⟩
/-- the neighbour in the upper layer -/
theorem ge_nbup (p w : Nat) : ge_nb (216 + p) w = (ge_nb p w).map (fun d => 216 + d) := by
  have e1 : (216 + p) % 6 = p % 6 := by omega
  have e2 : (216 + p) / 6 % 6 = p / 6 % 6 := by omega
  have e3 : (216 + p) / 36 % 6 = p / 36 % 6 := by omega
  unfold ge_nb
  rw [e1, e2, e3]
  by_cases h0 : w = 0
  · rw [if_pos h0, if_pos h0]
    by_cases h : p % 6 = 0
    · rw [if_pos h, if_pos h]; rfl
    · rw [if_neg h, if_neg h]; exact congrArg some (show 216 + p - 1 = 216 + (p - 1) by omega)
  rw [if_neg h0, if_neg h0]
  by_cases h1 : w = 1
  · rw [if_pos h1, if_pos h1]
    by_cases h : p % 6 = 5
    · rw [if_pos h, if_pos h]; rfl
    · rw [if_neg h, if_neg h]; exact congrArg some (show 216 + p + 1 = 216 + (p + 1) by omega)
  rw [if_neg h1, if_neg h1]
  by_cases h2 : w = 2
  · rw [if_pos h2, if_pos h2]
    by_cases h : p / 6 % 6 = 0
    · rw [if_pos h, if_pos h]; rfl
    · rw [if_neg h, if_neg h]; exact congrArg some (show 216 + p - 6 = 216 + (p - 6) by omega)
  rw [if_neg h2, if_neg h2]
  by_cases h3 : w = 3
  · rw [if_pos h3, if_pos h3]
    by_cases h : p / 6 % 6 = 5
    · rw [if_pos h, if_pos h]; rfl
    · rw [if_neg h, if_neg h]; exact congrArg some (show 216 + p + 6 = 216 + (p + 6) by omega)
  rw [if_neg h3, if_neg h3]
  by_cases h4 : w = 4
  · rw [if_pos h4, if_pos h4]
    by_cases h : p / 36 % 6 = 0
    · rw [if_pos h, if_pos h]; rfl
    · rw [if_neg h, if_neg h]; exact congrArg some (show 216 + p - 36 = 216 + (p - 36) by omega)
  rw [if_neg h4, if_neg h4]
  by_cases h : p / 36 % 6 = 5
  · rw [if_pos h, if_pos h]; rfl
  · rw [if_neg h, if_neg h]; exact congrArg some (show 216 + p + 36 = 216 + (p + 36) by omega)
/-- the base of a place's layer -/
def ge_b (p : Nat) : Nat := if p < 216 then 0 else 216
theorem ge_nbb {p w d : Nat} (h : ge_nb (p - ge_b p) w = some d) : ge_nb p w = some (ge_b p + d) := by
  unfold ge_b at h ⊢
  by_cases hp : p < 216
  · rw [if_pos hp] at h ⊢
    rw [Nat.zero_add]; exact h
  · rw [if_neg hp] at h ⊢
    obtain ⟨q, rfl⟩ : ∃ q, p = 216 + q := ⟨p - 216, by omega⟩
    rw [Nat.add_sub_cancel_left] at h
    rw [ge_nbup, h]; rfl
theorem ge_nbn {p w : Nat} (h : ge_nb (p - ge_b p) w = none) : ge_nb p w = none := by
  unfold ge_b at h
  by_cases hp : p < 216
  · rw [if_pos hp] at h
    exact h
  · rw [if_neg hp] at h
    obtain ⟨q, rfl⟩ : ∃ q, p = 216 + q := ⟨p - 216, by omega⟩
    rw [Nat.add_sub_cancel_left] at h
    rw [ge_nbup, h]; rfl
/-- Y's sides -/
def ge_fl (t : Nat) : Nat := if t % 2 = 0 then t + 1 else t - 1
theorem ge_fl6 {t : Nat} (h : t < 6) : ge_fl t < 6 := by unfold ge_fl; split <;> omega
theorem ge_flfl (t : Nat) : ge_fl (ge_fl t) = t := by unfold ge_fl; split <;> split <;> omega
end
section
/-! the pure laws of light: takeAway -/
def lf_src (la : Nat → Nat) (se : Nat → Bool) : Nat → Nat := fun p => if p < 216 then la p else if se (p - 216) = true then 8 else 0
def lf_sol (so : Nat → Bool) : Nat → Bool := fun p => so (p % 216)
def lf_B (lv : Nat → Nat) : Prop := ∀ p, p < 432 → lv p ≤ 12
/-- what holds a level up -/
def lf_Su (src : Nat → Nat) (sol : Nat → Bool) (lv : Nat → Nat) (p : Nat) : Prop := lv p = 0 ∨ lv p ≤ src p ∨ (sol p = false ∧ ∃ q, ge_adj p q ∧ lv p + 1 ≤ lv q)
/-- the levels are right -/
def lf_F (src : Nat → Nat) (sol : Nat → Bool) (lv : Nat → Nat) : Prop := lf_B lv ∧ (∀ p, p < 432 → lf_Su src sol lv p) ∧ (∀ p, p < 432 → src p ≤ lv p) ∧ (∀ p, p < 432 → ∀ q, ge_adj p q → sol q = false → lv p ≤ lv q + 1)
/-- right but for what rims still have to give -/
def lf_H (src : Nat → Nat) (sol : Nat → Bool) (lv : Nat → Nat) (ri : Nat → Bool) : Prop := lf_B lv ∧ (∀ p, p < 432 → lf_Su src sol lv p) ∧ (∀ p, p < 432 → ri p = false → src p ≤ lv p ∧ ∀ q, ge_adj p q → sol q = false → lv p ≤ lv q + 1)
theorem lf_FH {src : Nat → Nat} {sol : Nat → Bool} {lv : Nat → Nat} {ri : Nat → Bool} (h : lf_F src sol lv) : lf_H src sol lv ri :=
  ⟨h.1, h.2.1, fun p hp _ => ⟨h.2.2.1 p hp, h.2.2.2 p hp⟩⟩
def ta_J (src : Nat → Nat) (sol : Nat → Bool) (lv0 : Nat → Nat) (a l i w : Nat) (lv : Nat → Nat) (ri : Nat → Bool) (st lo : Nat → Nat) : Prop :=
  lf_B lv ∧ (∀ k, k < w → st k < 432 ∧ lo k ≤ 12) ∧ (∀ p, lv p ≤ lv0 p) ∧
  (∀ p, p < 432 → lf_Su src sol lv p ∨ (∃ k, k < w ∧ ge_adj (st k) p ∧ lv p < lo k) ∨ (∃ j, i ≤ j ∧ j < 6 ∧ ge_nb a j = some p ∧ lv p < l)) ∧
  (∀ p, p < 432 → ri p = false → src p ≤ lv p ∧ ∀ q, ge_adj p q → sol q = false → lv p ≤ lv q + 1 ∨ (∃ k, k < w ∧ st k = q) ∨ (q = a ∧ ∃ j, i ≤ j ∧ j < 6 ∧ ge_nb a j = some p))
section TA
variable {src : Nat → Nat} {sol : Nat → Bool} {lv0 : Nat → Nat} {a l i w : Nat} {lv : Nat → Nat} {ri : Nat → Bool} {st lo : Nat → Nat}
theorem ta_start (h : lf_H src sol lv ri) : ta_J src sol lv a l 6 0 lv ri st lo :=
  ⟨h.1, fun k hk => absurd hk (Nat.not_lt_zero k), fun _ => Nat.le_refl _, fun p hp => Or.inl (h.2.1 p hp), fun p hp hr => ⟨(h.2.2 p hp hr).1, fun q hq hs => Or.inl ((h.2.2 p hp hr).2 q hq hs)⟩⟩
theorem ta_end (h : ta_J src sol lv0 a l 6 0 lv ri st lo) : lf_H src sol lv ri := by
  obtain ⟨h1, _, _, h4, h5⟩ := h
  refine ⟨h1, fun p hp => ?_, fun p hp hr => ⟨(h5 p hp hr).1, fun q hq hs => ?_⟩⟩
  · rcases h4 p hp with h | ⟨k, hk, _⟩ | ⟨j, hj, hj2, _⟩
    · exact h
    · omega
    · omega
  · rcases (h5 p hp hr).2 q hq hs with h | ⟨k, hk, _⟩ | ⟨_, j, hj, hj2, _⟩
    · exact h
    · omega
    · omega
theorem ta_six {a' l' : Nat} (h : ta_J src sol lv0 a l 6 w lv ri st lo) : ta_J src sol lv0 a' l' 6 w lv ri st lo := by
  obtain ⟨h1, h2, h3, h4, h5⟩ := h
  refine ⟨h1, h2, h3, fun p hp => ?_, fun p hp hr => ⟨(h5 p hp hr).1, fun q hq hs => ?_⟩⟩
  · rcases h4 p hp with h | h | ⟨j, hj, hj2, _⟩
    · exact Or.inl h
    · exact Or.inr (Or.inl h)
    · omega
  · rcases (h5 p hp hr).2 q hq hs with h | h | ⟨_, j, hj, hj2, _⟩
    · exact Or.inl h
    · exact Or.inr (Or.inl h)
    · omega
theorem ta_pop (h : ta_J src sol lv0 a l 6 (w + 1) lv ri st lo) : ta_J src sol lv0 (st w) (lo w) 0 w lv ri st lo := by
  obtain ⟨h1, h2, h3, h4, h5⟩ := h
  refine ⟨h1, fun k hk => h2 k (by omega), h3, fun p hp => ?_, fun p hp hr => ⟨(h5 p hp hr).1, fun q hq hs => ?_⟩⟩
  · rcases h4 p hp with h | ⟨k, hk, ha, hl⟩ | ⟨j, hj, hj2, _⟩
    · exact Or.inl h
    · by_cases e : k = w
      · subst e
        obtain ⟨j, hj, he⟩ := ha
        exact Or.inr (Or.inr ⟨j, Nat.zero_le j, hj, he, hl⟩)
      · exact Or.inr (Or.inl ⟨k, by omega, ha, hl⟩)
    · omega
  · rcases (h5 p hp hr).2 q hq hs with h | ⟨k, hk, he⟩ | ⟨_, j, hj, hj2, _⟩
    · exact Or.inl h
    · by_cases e : k = w
      · subst e
        obtain ⟨j, hj, hb⟩ := ge_sym hq
        exact Or.inr (Or.inr ⟨he.symm, j, Nat.zero_le j, hj, by rw [he]; exact hb⟩)
      · exact Or.inr (Or.inl ⟨k, by omega, he⟩)
    · omega
theorem ta_none (hn : ge_nb a i = none) (h : ta_J src sol lv0 a l i w lv ri st lo) : ta_J src sol lv0 a l (i + 1) w lv ri st lo := by
  obtain ⟨h1, h2, h3, h4, h5⟩ := h
  refine ⟨h1, h2, h3, fun p hp => ?_, fun p hp hr => ⟨(h5 p hp hr).1, fun q hq hs => ?_⟩⟩
  · rcases h4 p hp with h | h | ⟨j, hj, hj2, hb, hl⟩
    · exact Or.inl h
    · exact Or.inr (Or.inl h)
    · by_cases e : j = i
      · subst e; rw [hn] at hb; exact nomatch hb
      · exact Or.inr (Or.inr ⟨j, by omega, hj2, hb, hl⟩)
  · rcases (h5 p hp hr).2 q hq hs with h | h | ⟨ha, j, hj, hj2, hb⟩
    · exact Or.inl h
    · exact Or.inr (Or.inl h)
    · by_cases e : j = i
      · subst e; rw [hn] at hb; exact nomatch hb
      · exact Or.inr (Or.inr ⟨ha, j, by omega, hj2, hb⟩)
theorem ta_adv {c : Nat} (hn : ge_nb a i = some c) (hc : lv c = 0 ∨ (l ≤ lv c ∧ ri c = true)) (h : ta_J src sol lv0 a l i w lv ri st lo) : ta_J src sol lv0 a l (i + 1) w lv ri st lo := by
  obtain ⟨h1, h2, h3, h4, h5⟩ := h
  refine ⟨h1, h2, h3, fun p hp => ?_, fun p hp hr => ⟨(h5 p hp hr).1, fun q hq hs => ?_⟩⟩
  · rcases h4 p hp with h | h | ⟨j, hj, hj2, hb, hl⟩
    · exact Or.inl h
    · exact Or.inr (Or.inl h)
    · by_cases e : j = i
      · subst e
        rw [hn] at hb
        cases hb
        rcases hc with hc | hc
        · exact Or.inl (Or.inl hc)
        · omega
      · exact Or.inr (Or.inr ⟨j, by omega, hj2, hb, hl⟩)
  · rcases (h5 p hp hr).2 q hq hs with h | h | ⟨ha, j, hj, hj2, hb⟩
    · exact Or.inl h
    · exact Or.inr (Or.inl h)
    · by_cases e : j = i
      · subst e
        rw [hn] at hb
        cases hb
        rcases hc with hc | hc
        · exact Or.inl (by omega)
        · rw [hc.2] at hr; exact nomatch hr
      · exact Or.inr (Or.inr ⟨ha, j, by omega, hj2, hb⟩)
theorem ta_rim (c : Nat) (h : ta_J src sol lv0 a l i w lv ri st lo) : ta_J src sol lv0 a l i w lv (ar_u ri c true) st lo := by
  obtain ⟨h1, h2, h3, h4, h5⟩ := h
  refine ⟨h1, h2, h3, h4, fun p hp hr => ?_⟩
  by_cases e : p = c
  · subst e; rw [ar_us] at hr; exact nomatch hr
  · rw [ar_un e] at hr; exact h5 p hp hr
theorem ta_drop {c : Nat} (hc : c < 432) (h : ta_J src sol lv0 a l i w lv ri st lo) : ta_J src sol lv0 a l i (w + 1) (ar_u lv c 0) (ar_u ri c true) (ar_u st w c) (ar_u lo w (lv c)) := by
  obtain ⟨h1, h2, h3, h4, h5⟩ := h
  refine ⟨fun p hp => ?_, fun k hk => ?_, fun p => ?_, fun p hp => ?_, fun p hp hr => ?_⟩
  · by_cases e : p = c
    · subst e; rw [ar_us]; omega
    · rw [ar_un e]; exact h1 p hp
  · by_cases e : k = w
    · subst e; rw [ar_us, ar_us]; exact ⟨hc, h1 c hc⟩
    · rw [ar_un e, ar_un e]; exact h2 k (by omega)
  · by_cases e : p = c
    · subst e; rw [ar_us]; omega
    · rw [ar_un e]; exact h3 p
  · by_cases e : p = c
    · subst e; exact Or.inl (Or.inl ar_us)
    · rcases h4 p hp with (h | h | ⟨hs, q, hq, hl⟩) | ⟨k, hk, hk2, hk3⟩ | ⟨j, hj, hj2, hb, hl⟩
      · exact Or.inl (Or.inl (by rw [ar_un e]; exact h))
      · exact Or.inl (Or.inr (Or.inl (by rw [ar_un e]; exact h)))
      · by_cases e2 : q = c
        · subst e2
          exact Or.inr (Or.inl ⟨w, by omega, by rw [ar_us]; exact ge_sym hq, by rw [ar_un e, ar_us]; omega⟩)
        · exact Or.inl (Or.inr (Or.inr ⟨hs, q, hq, by rw [ar_un e, ar_un e2]; exact hl⟩))
      · have e3 : k ≠ w := by omega
        exact Or.inr (Or.inl ⟨k, by omega, by rw [ar_un e3]; exact hk2, by rw [ar_un e, ar_un e3]; exact hk3⟩)
      · exact Or.inr (Or.inr ⟨j, hj, hj2, hb, by rw [ar_un e]; exact hl⟩)
  · by_cases e : p = c
    · subst e; rw [ar_us] at hr; exact nomatch hr
    · rw [ar_un e] at hr ⊢
      refine ⟨(h5 p hp hr).1, fun q hq hs => ?_⟩
      by_cases e2 : q = c
      · subst e2
        exact Or.inr (Or.inl ⟨w, by omega, ar_us⟩)
      · rw [ar_un e2]
        rcases (h5 p hp hr).2 q hq hs with h | ⟨k, hk, hk2⟩ | h
        · exact Or.inl h
        · have e3 : k ≠ w := by omega
          exact Or.inr (Or.inl ⟨k, by omega, by rw [ar_un e3]; exact hk2⟩)
        · exact Or.inr (Or.inr h)
end TA
/-- places with light -/
def ta_c (lv : Nat → Nat) : Nat → Bool := fun p => decide (0 < lv p)
theorem ta_cdrop {lv : Nat → Nat} {c : Nat} (hc : c < 432) (h : lv c ≠ 0) : cn_t (ta_c (ar_u lv c 0)) 432 + 1 = cn_t (ta_c lv) 432 := by
  refine cn_drop (k := c) (decide_eq_true (by omega)) (decide_eq_false (by rw [ar_us]; omega)) 432 hc (fun j hj hne => ?_)
  show decide (0 < lv j) = decide (0 < ar_u lv c 0 j)
  rw [ar_un hne]
theorem ta_cpos {lv : Nat → Nat} {c : Nat} (hc : c < 432) (h : lv c ≠ 0) : 1 ≤ cn_t (ta_c lv) 432 := cn_pos hc (decide_eq_true (by omega))
end
section
/-! the pure laws of light: flow -/
def fl_I (src : Nat → Nat) (sol : Nat → Bool) (i : Nat) (lv : Nat → Nat) (ri : Nat → Bool) : Prop := lf_H src sol lv ri ∧ ∀ p, p < 432 → p < i → src p ≤ lv p
def fp_I (src : Nat → Nat) (sol : Nat → Bool) (l i : Nat) (lv : Nat → Nat) (ri : Nat → Bool) : Prop :=
  lf_B lv ∧ (∀ p, p < 432 → lf_Su src sol lv p) ∧ (∀ p, p < 432 → src p ≤ lv p) ∧ (∀ p, p < 432 → ri p = false → ∀ q, ge_adj p q → sol q = false → lv p ≤ lv q + 1) ∧ (∀ p, p < 432 → ri p = true → lv p ≤ l ∧ (p < i → lv p < l))
def fp_P (src : Nat → Nat) (sol : Nat → Bool) (a l i j : Nat) (lv : Nat → Nat) (ri : Nat → Bool) : Prop :=
  lf_B lv ∧ (∀ p, p < 432 → lf_Su src sol lv p) ∧ (∀ p, p < 432 → src p ≤ lv p) ∧ (lv a = l ∧ ri a = false) ∧ (∀ p, p < 432 → ri p = false → ∀ t, t < 6 → (p = a → t < j) → ∀ q, ge_nb p t = some q → sol q = false → lv p ≤ lv q + 1) ∧ (∀ p, p < 432 → ri p = true → lv p ≤ l ∧ (p < i → lv p < l))
section FL
variable {src : Nat → Nat} {sol : Nat → Bool} {lv : Nat → Nat} {ri : Nat → Bool}
/-- one level rises: the others stay held up -/
theorem lf_raise {c v : Nat} (hv : lv c ≤ v) {p : Nat} (e : p ≠ c) (h : lf_Su src sol lv p) : lf_Su src sol (ar_u lv c v) p := by
  rcases h with h | h | ⟨hs, q, hq, hl⟩
  · exact Or.inl (by rw [ar_un e]; exact h)
  · exact Or.inr (Or.inl (by rw [ar_un e]; exact h))
  · refine Or.inr (Or.inr ⟨hs, q, hq, ?_⟩)
    rw [ar_un e]
    by_cases e2 : q = c
    · subst e2; rw [ar_us]; omega
    · rw [ar_un e2]; exact hl
theorem lf_ge {c v : Nat} (hv : lv c ≤ v) (q : Nat) : lv q ≤ ar_u lv c v q := by
  by_cases e : q = c
  · subst e; rw [ar_us]; exact hv
  · rw [ar_un e]; exact Nat.le_refl _
theorem fl_0 (h : lf_H src sol lv ri) : fl_I src sol 0 lv ri := ⟨h, fun p _ hp => absurd hp (Nat.not_lt_zero p)⟩
theorem fl_skip {i : Nat} (hr : ri i = false) (h : fl_I src sol i lv ri) : fl_I src sol (i + 1) lv ri := by
  refine ⟨h.1, fun p hp hi => ?_⟩
  by_cases e : p = i
  · subst e; exact (h.1.2.2 p hp hr).1
  · exact h.2 p hp (by omega)
theorem fl_step {i v : Nat} (hr : ri i = true) (h1 : lv i ≤ v) (h2 : src i ≤ v) (h3 : v = lv i ∨ v = src i) (hv : v ≤ 12) (h : fl_I src sol i lv ri) : fl_I src sol (i + 1) (ar_u lv i v) ri := by
  obtain ⟨⟨hB, hS, hU⟩, hI⟩ := h
  refine ⟨⟨fun p hp => ?_, fun p hp => ?_, fun p hp hrp => ?_⟩, fun p hp hi => ?_⟩
  · by_cases e : p = i
    · subst e; rw [ar_us]; exact hv
    · rw [ar_un e]; exact hB p hp
  · by_cases e : p = i
    · subst e
      rcases h3 with h3 | h3
      · rcases hS p hp with h | h | ⟨hs, q, hq, hl⟩
        · exact Or.inl (by rw [ar_us]; omega)
        · exact Or.inr (Or.inl (by rw [ar_us]; omega))
        · refine Or.inr (Or.inr ⟨hs, q, hq, ?_⟩)
          have := lf_ge (lv := lv) h1 q
          rw [ar_us]; omega
      · exact Or.inr (Or.inl (by rw [ar_us]; omega))
    · exact lf_raise h1 e (hS p hp)
  · have e : p ≠ i := fun z => by subst z; rw [hr] at hrp; exact nomatch hrp
    rw [ar_un e]
    refine ⟨(hU p hp hrp).1, fun q hq hs => ?_⟩
    have := lf_ge (lv := lv) h1 q
    have := (hU p hp hrp).2 q hq hs
    omega
  · by_cases e : p = i
    · subst e; rw [ar_us]; exact h2
    · rw [ar_un e]; exact hI p hp (by omega)
theorem fp_0 (h : fl_I src sol 432 lv ri) : fp_I src sol 12 0 lv ri :=
  ⟨h.1.1, h.1.2.1, fun p hp => h.2 p hp hp, fun p hp hr => (h.1.2.2 p hp hr).2, fun p hp _ => ⟨h.1.1 p hp, fun z => absurd z (Nat.not_lt_zero p)⟩⟩
theorem fp_dn {l : Nat} (h : fp_I src sol (l + 1) 432 lv ri) : fp_I src sol l 0 lv ri :=
  ⟨h.1, h.2.1, h.2.2.1, h.2.2.2.1, fun p hp hr => ⟨Nat.le_of_lt_succ ((h.2.2.2.2 p hp hr).2 hp), fun z => absurd z (Nat.not_lt_zero p)⟩⟩
theorem fp_end (h : fp_I src sol 0 0 lv ri) : lf_F src sol lv := by
  refine ⟨h.1, h.2.1, h.2.2.1, fun p hp q hq hs => ?_⟩
  cases hr : ri p
  · exact h.2.2.2.1 p hp hr q hq hs
  · have := (h.2.2.2.2 p hp hr).1
    omega
theorem fp_skip {l i : Nat} (hr : ri i = false ∨ lv i ≠ l) (h : fp_I src sol l i lv ri) : fp_I src sol l (i + 1) lv ri := by
  refine ⟨h.1, h.2.1, h.2.2.1, h.2.2.2.1, fun p hp hrp => ⟨(h.2.2.2.2 p hp hrp).1, fun hi => ?_⟩⟩
  have h5 := h.2.2.2.2 p hp hrp
  by_cases e : p = i
  · subst e
    rcases hr with hr | hr
    · rw [hr] at hrp; exact nomatch hrp
    · omega
  · exact h5.2 (by omega)
theorem fp_in {l i : Nat} (hl : lv i = l) (h : fp_I src sol l i lv ri) : fp_P src sol i l (i + 1) 0 lv (ar_u ri i false) := by
  obtain ⟨h1, h2, h3, h4, h5⟩ := h
  refine ⟨h1, h2, h3, ⟨hl, ar_us⟩, fun p hp hr t ht hpt q hq hs => ?_, fun p hp hr => ?_⟩
  · by_cases e : p = i
    · exact absurd (hpt e) (Nat.not_lt_zero t)
    · rw [ar_un e] at hr
      exact h4 p hp hr q ⟨t, ht, hq⟩ hs
  · by_cases e : p = i
    · subst e; rw [ar_us] at hr; exact nomatch hr
    · rw [ar_un e] at hr
      exact ⟨(h5 p hp hr).1, fun hi => (h5 p hp hr).2 (by omega)⟩
theorem fp_out {a l i : Nat} (h : fp_P src sol a l i 6 lv ri) : fp_I src sol l i lv ri := by
  obtain ⟨h1, h2, h3, h4, h5, h6⟩ := h
  exact ⟨h1, h2, h3, fun p hp hr q hq hs => by obtain ⟨t, ht, hq⟩ := hq; exact h5 p hp hr t ht (fun _ => ht) q hq hs, h6⟩
theorem fp_keep {a l i j : Nat} (hc : ∀ c, ge_nb a j = some c → sol c = false → l ≤ lv c + 1) (h : fp_P src sol a l i j lv ri) : fp_P src sol a l i (j + 1) lv ri := by
  obtain ⟨h1, h2, h3, h4, h5, h6⟩ := h
  refine ⟨h1, h2, h3, h4, fun p hp hr t ht hpt q hq hs => ?_, h6⟩
  by_cases e : p = a ∧ t = j
  · obtain ⟨rfl, rfl⟩ := e
    rw [h4.1]; exact hc q hq hs
  · exact h5 p hp hr t ht (fun z => by have := hpt z; have : t ≠ j := fun z2 => e ⟨z, z2⟩; omega) q hq hs
theorem fp_set {a l i j c : Nat} (ha : a < 432) (hj : j < 6) (hb : ge_nb a j = some c) (hs : sol c = false) (hl : lv c + 1 < l) (h : fp_P src sol a l i j lv ri) : fp_P src sol a l i (j + 1) (ar_u lv c (l - 1)) (ar_u ri c true) := by
  obtain ⟨h1, h2, h3, h4, h5, h6⟩ := h
  have hca : a ≠ c := fun z => by rw [← z, h4.1] at hl; omega
  have hge := lf_ge (lv := lv) (c := c) (v := l - 1) (by omega)
  have hl12 : l ≤ 12 := by rw [← h4.1]; exact h1 a ha
  refine ⟨fun p hp => ?_, fun p hp => ?_, fun p hp => ?_, ?_, fun p hp hr t ht hpt q hq hs => ?_, fun p hp hr => ?_⟩
  · by_cases e : p = c
    · subst e; rw [ar_us]; omega
    · rw [ar_un e]; exact h1 p hp
  · by_cases e : p = c
    · subst e
      exact Or.inr (Or.inr ⟨hs, a, ge_sym ⟨j, hj, hb⟩, by rw [ar_us, ar_un hca, h4.1]; omega⟩)
    · exact lf_raise (by omega) e (h2 p hp)
  · exact Nat.le_trans (h3 p hp) (hge p)
  · rw [ar_un hca, ar_un hca]; exact h4
  · have e : p ≠ c := fun z => by subst z; rw [ar_us] at hr; exact nomatch hr
    rw [ar_un e] at hr ⊢
    by_cases e2 : p = a ∧ t = j
    · obtain ⟨rfl, rfl⟩ := e2
      rw [hb] at hq
      cases hq
      rw [ar_us, h4.1]; omega
    · have := h5 p hp hr t ht (fun z => by have := hpt z; have : t ≠ j := fun z2 => e2 ⟨z, z2⟩; omega) q hq hs
      have := hge q
      omega
  · by_cases e : p = c
    · subst e; rw [ar_us]; exact ⟨by omega, fun _ => by omega⟩
    · rw [ar_un e] at hr ⊢; exact h6 p hp hr
end FL
end
section
/-! the pure laws of light: change, setLamp, the sky's columns -/
def lf_Se (so se : Nat → Bool) (x : Nat) : Prop := se x = (!so x && (decide (216 ≤ x + 36) || se (x + 36)))
/-- the state between calls -/
def rl_I (so : Nat → Bool) (la : Nat → Nat) (se : Nat → Bool) (lv : Nat → Nat) : Prop := (∀ x, x < 216 → la x ≤ 12) ∧ (∀ x, x < 216 → lf_Se so se x) ∧ lf_F (lf_src la se) (lf_sol so) lv
theorem lf_s1 {la : Nat → Nat} {se : Nat → Bool} {p : Nat} (h : p < 216) : lf_src la se p = la p := if_pos h
theorem lf_s2 {la : Nat → Nat} {se : Nat → Bool} {x : Nat} : lf_src la se (216 + x) = if se x = true then 8 else 0 := by
  show (if 216 + x < 216 then la (216 + x) else if se (216 + x - 216) = true then 8 else 0) = _
  rw [if_neg (by omega), Nat.add_sub_cancel_left]
theorem lf_o1 {so : Nat → Bool} {p : Nat} (h : p < 216) : lf_sol so p = so p := by
  show so (p % 216) = so p
  rw [Nat.mod_eq_of_lt h]
theorem lf_o2 {so : Nat → Bool} {x : Nat} (h : x < 216) : lf_sol so (216 + x) = so x := by
  show so ((216 + x) % 216) = so x
  rw [Nat.add_mod_left, Nat.mod_eq_of_lt h]
/-- a place is of the lower layer or of the upper one -/
theorem ge_two {p : Nat} (h : p < 432) : p < 216 ∨ ∃ x, x < 216 ∧ p = 216 + x := by
  by_cases h2 : p < 216
  · exact Or.inl h2
  · exact Or.inr ⟨p - 216, by omega, by omega⟩
theorem lf_src12 {la : Nat → Nat} {se : Nat → Bool} (h : ∀ x, x < 216 → la x ≤ 12) {p : Nat} (hp : p < 432) : lf_src la se p ≤ 12 := by
  rcases ge_two hp with h1 | ⟨x, hx, rfl⟩
  · rw [lf_s1 h1]; exact h p h1
  · rw [lf_s2]; split <;> omega
theorem ch_lamp {la : Nat → Nat} {se : Nat → Bool} {sol : Nat → Bool} {lv : Nat → Nat} {ri : Nat → Bool} {c s : Nat} (hc : c < 216) (h0 : lv c = 0) (h : lf_H (lf_src la se) sol lv ri) : lf_H (lf_src (ar_u la c s) se) sol lv (ar_u ri c true) := by
  obtain ⟨h1, h2, h3⟩ := h
  have hs : ∀ p, p < 432 → p ≠ c → lf_src (ar_u la c s) se p = lf_src la se p := fun p hp hne => by
    rcases ge_two hp with h1 | ⟨x, hx, rfl⟩
    · rw [lf_s1 h1, lf_s1 h1, ar_un hne]
    · rw [lf_s2, lf_s2]
  refine ⟨h1, fun p hp => ?_, fun p hp hr => ?_⟩
  · by_cases e : p = c
    · subst e; exact Or.inl h0
    · rcases h2 p hp with h | h | h
      · exact Or.inl h
      · exact Or.inr (Or.inl (by rw [hs p hp e]; exact h))
      · exact Or.inr (Or.inr h)
  · by_cases e : p = c
    · subst e; rw [ar_us] at hr; exact nomatch hr
    · rw [ar_un e] at hr
      rw [hs p hp e]
      exact h3 p hp hr
theorem ch_solid {la : Nat → Nat} {so so' se se' : Nat → Bool} {lv : Nat → Nat} {ri ri' : Nat → Bool} {c : Nat} (hc : c < 216) (h : lf_H (lf_src la se) (lf_sol so) lv ri)
    (hso : ∀ x, x ≠ c → so' x = so x) (z1 : lv c = 0) (z2 : lv (216 + c) = 0)
    (hse : ∀ x, x < 216 → se' x = se x ∨ ((se x = true → lv (216 + x) = 0) ∧ ri' (216 + x) = true))
    (hri : ∀ p, ri p = true → ri' p = true) (hnb : ∀ d, ge_adj c d → ri' d = true ∧ ri' (216 + d) = true) : lf_H (lf_src la se') (lf_sol so') lv ri' := by
  obtain ⟨h1, h2, h3⟩ := h
  have hsol : ∀ p, p < 432 → p ≠ c → p ≠ 216 + c → lf_sol so' p = lf_sol so p := fun p hp e1 e2 => by
    rcases ge_two hp with h1 | ⟨x, hx, rfl⟩
    · rw [lf_o1 h1, lf_o1 h1, hso p e1]
    · rw [lf_o2 hx, lf_o2 hx, hso x (by omega)]
  refine ⟨h1, fun p hp => ?_, fun p hp hr => ?_⟩
  · by_cases e1 : p = c
    · subst e1; exact Or.inl z1
    by_cases e2 : p = 216 + c
    · subst e2; exact Or.inl z2
    rcases h2 p hp with h | h | ⟨h, h'⟩
    · exact Or.inl h
    · rcases ge_two hp with hl | ⟨x, hx, rfl⟩
      · rw [lf_s1 hl] at h
        exact Or.inr (Or.inl (by rw [lf_s1 hl]; exact h))
      · rcases hse x hx with e | ⟨e, _⟩
        · rw [lf_s2] at h
          exact Or.inr (Or.inl (by rw [lf_s2, e]; exact h))
        · cases hs : se x
          · rw [lf_s2, hs, if_neg (by decide)] at h
            exact Or.inl (by omega)
          · exact Or.inl (e hs)
    · exact Or.inr (Or.inr ⟨by rw [hsol p hp e1 e2]; exact h, h'⟩)
  · have hr0 : ri p = false := by
      cases hx : ri p
      · rfl
      · rw [hri p hx] at hr; exact nomatch hr
    refine ⟨?_, fun q hq hs => ?_⟩
    · have h := (h3 p hp hr0).1
      rcases ge_two hp with hl | ⟨x, hx, rfl⟩
      · rw [lf_s1 hl] at h ⊢; exact h
      · rcases hse x hx with e | ⟨_, e⟩
        · rw [lf_s2] at h ⊢; rw [e]; exact h
        · rw [e] at hr; exact nomatch hr
    · refine (h3 p hp hr0).2 q hq ?_
      have hq4 := ge_lt4 hq hp
      by_cases e1 : q = c
      · subst e1
        rw [(hnb p (ge_sym hq)).1] at hr; exact nomatch hr
      by_cases e2 : q = 216 + c
      · subst e2
        have hg := ge_ge2 (ge_sym hq) (Nat.le_add_right 216 c)
        obtain ⟨d, rfl⟩ : ∃ d, p = 216 + d := ⟨p - 216, by omega⟩
        rw [(hnb d (ge_dn (ge_sym hq))).2] at hr; exact nomatch hr
      rw [← hsol q hq4 e1 e2]; exact hs
/-- the loop down the column: what stands when the cell x (if any) is next -/
def ch_C (so se0 : Nat → Bool) (ri0 : Nat → Bool) (c b : Nat) (sky : Bool) (se ri : Nat → Bool) : Prop :=
  (b ≤ c ∧ b % 36 = c % 36) ∧ (∀ x, x < 216 → ¬ (x ≤ b ∧ x % 36 = c % 36) → lf_Se so se x) ∧ sky = (decide (216 ≤ b + 36) || se (b + 36)) ∧
  (∀ x, ¬ (x ≤ c ∧ x % 36 = c % 36) → se x = se0 x) ∧ (∀ x, b < x → x ≤ c → x % 36 = c % 36 → ri (216 + x) = true) ∧ (∀ p, ri0 p = true → ri p = true)
def ch_E (so se0 : Nat → Bool) (ri0 : Nat → Bool) (c : Nat) (se ri : Nat → Bool) : Prop :=
  (∀ x, x < 216 → lf_Se so se x) ∧ (∀ x, ¬ (x ≤ c ∧ x % 36 = c % 36) → se x = se0 x) ∧ (∀ x, x ≤ c → x % 36 = c % 36 → ri (216 + x) = true) ∧ (∀ p, ri0 p = true → ri p = true)
section CH
variable {so se0 ri0 se ri : Nat → Bool} {c b : Nat} {sky : Bool}
theorem ch_C0 {so0 : Nat → Bool} (hso : ∀ x, x ≠ c → so x = so0 x) (h : ∀ x, x < 216 → lf_Se so0 se x) : ch_C so se ri c c (decide (216 ≤ c + 36) || se (c + 36)) se ri := by
  refine ⟨⟨Nat.le_refl c, rfl⟩, fun x hx hn => ?_, rfl, fun _ _ => rfl, fun x h1 h2 => by omega, fun _ h => h⟩
  have e : x ≠ c := fun z => hn ⟨by omega, by rw [z]⟩
  have := h x hx
  unfold lf_Se at this ⊢
  rw [hso x e]; exact this
theorem ch_set (hc : c < 216) (h : ch_C so se0 ri0 c b sky se ri) : (∀ x, x < 216 → ¬ (x < b ∧ x % 36 = c % 36) → lf_Se so (ar_u se b (sky && !so b)) x) ∧ (∀ x, ¬ (x ≤ c ∧ x % 36 = c % 36) → ar_u se b (sky && !so b) x = se0 x) ∧ (∀ x, b ≤ x → x ≤ c → x % 36 = c % 36 → ar_u ri (216 + b) true (216 + x) = true) ∧ (∀ p, ri0 p = true → ar_u ri (216 + b) true p = true) := by
  obtain ⟨⟨hb1, hb2⟩, h2, h3, h4, h5, h6⟩ := h
  refine ⟨fun x hx hn => ?_, fun x hn => ?_, fun x h1 h2 h7 => ?_, fun p hp => ?_⟩
  · unfold lf_Se
    by_cases e : x = b
    · subst e
      rw [ar_us, ar_un (by omega), ← h3, Bool.and_comm]
    · have e2 : x + 36 ≠ b := fun z => hn ⟨by omega, by omega⟩
      rw [ar_un e, ar_un e2]
      exact h2 x hx (fun z => hn ⟨by omega, z.2⟩)
  · have e : x ≠ b := fun z => hn ⟨by omega, by rw [z]; exact hb2⟩
    rw [ar_un e]; exact h4 x hn
  · by_cases e : x = b
    · subst e; exact ar_us
    · rw [ar_un (by omega)]; exact h5 x (by omega) h2 h7
  · by_cases e : p = 216 + b
    · subst e; exact ar_us
    · rw [ar_un e]; exact h6 p hp
theorem ch_dn (hc : c < 216) (hb : 36 ≤ b) (h : ch_C so se0 ri0 c b sky se ri) : ch_C so se0 ri0 c (b - 36) (sky && !so b) (ar_u se b (sky && !so b)) (ar_u ri (216 + b) true) := by
  have hs := ch_set hc h
  obtain ⟨⟨hb1, hb2⟩, h2, h3, h4, h5, h6⟩ := h
  refine ⟨⟨by omega, by omega⟩, fun x hx hn => hs.1 x hx (fun z => hn ⟨by omega, z.2⟩), ?_, hs.2.1, fun x h1 h2 h7 => hs.2.2.1 x (by omega) h2 h7, hs.2.2.2⟩
  have e : b - 36 + 36 = b := by omega
  rw [e, ar_us, decide_eq_false (by omega), Bool.false_or]
theorem ch_last (hc : c < 216) (hb : b < 36) (h : ch_C so se0 ri0 c b sky se ri) : ch_E so se0 ri0 c (ar_u se b (sky && !so b)) (ar_u ri (216 + b) true) := by
  have hs := ch_set hc h
  obtain ⟨⟨hb1, hb2⟩, h2, h3, h4, h5, h6⟩ := h
  exact ⟨fun x hx => hs.1 x hx (by omega), hs.2.1, fun x h1 h7 => hs.2.2.1 x (by omega) h1 h7, hs.2.2.2⟩
end CH
end
section
/-! the component's small methods -/
theorem ar_wN {f : Nat → Nat} {k x : Nat} {i v : Int32} (hi : i.toNatClampNeg = k) (hv : v = nI x) : upd (ar_N f) i.toNatClampNeg v = ar_N (ar_u f k x) := by
  rw [hi, hv]; exact ar_updN f k x
theorem ar_wT {f : Nat → Bool} {k : Nat} {i : Int32} (hi : i.toNatClampNeg = k) : upd (ar_B f) i.toNatClampNeg (vp_nar .boolean 1) = ar_B (ar_u f k true) := by
  rw [hi]; exact ar_updB1 f k
theorem ar_wF {f : Nat → Bool} {k : Nat} {i : Int32} (hi : i.toNatClampNeg = k) : upd (ar_B f) i.toNatClampNeg (vp_nar .boolean 0) = ar_B (ar_u f k false) := by
  rw [hi]; exact ar_updB0 f k
theorem ar_wb {f : Nat → Bool} {k : Nat} {i : Int32} {x : Bool} (hi : i.toNatClampNeg = k) : upd (ar_B f) i.toNatClampNeg (vp_nar .boolean (ar_b x)) = ar_B (ar_u f k x) := by
  rw [hi]; exact ar_updB f k x
theorem xn_23e {post : Int32 → Prop} {c z w : Nat} (hc : c < 2 ^ 31) (hz : 0 < z) (hz2 : z < 2 ^ 31) (hw : (nI w &&& 1) = 0) (h0 : c / z % 6 = 0 → post (-1)) (h1 : c / z % 6 ≠ 0 → post (nI (c - z))) : wX_neighbour_23 post (nI c) (nI w) (nI z) := by
  have hd : c / z < 2 ^ 31 := Nat.lt_of_le_of_lt (Nat.div_le_self c z) hc
  have hm : c / z % 6 < 6 := Nat.mod_lt _ (by decide)
  refine ⟨nI_ne0 hz hz2, by decide, nm_r (e' := nI (c / z % 6)) ?_ (br_t hw (pk_le (c / z % 6) 0 (fun h => h0 (by omega)) (fun h => ?_)))⟩
  · rw [pk_div hc hz hz2]
    exact pk_rem (d := 6) hd (by decide) (by decide)
  · have hle : z ≤ c := by
      by_cases e : z ≤ c
      · exact e
      · rw [Nat.div_eq_of_lt (by omega)] at h; exact absurd h (by decide)
    rw [pk_sub hle]
    exact h1 (by omega)
theorem xn_23o {post : Int32 → Prop} {c z w : Nat} (hc : c < 2 ^ 31) (hz : 0 < z) (hz2 : z < 2 ^ 31) (hw : ¬ (nI w &&& 1) = 0) (h0 : c / z % 6 = 5 → post (-1)) (h1 : c / z % 6 ≠ 5 → post (nI (c + z))) : wX_neighbour_23 post (nI c) (nI w) (nI z) := by
  have hd : c / z < 2 ^ 31 := Nat.lt_of_le_of_lt (Nat.div_le_self c z) hc
  have hm : c / z % 6 < 6 := Nat.mod_lt _ (by decide)
  refine ⟨nI_ne0 hz hz2, by decide, nm_r (e' := nI (c / z % 6)) ?_ (br_f hw (pk_le 5 (c / z % 6) (fun h => h0 (by omega)) (fun h => ?_)))⟩
  · rw [pk_div hc hz hz2]
    exact pk_rem (d := 6) hd (by decide) (by decide)
  · rw [nI_add]
    exact h1 (by omega)
theorem xn_nb {post : Int32 → Prop} {x y : Int32} (c w : Nat) (hc : c < 216) (hw : w < 6) (hx : x = nI c) (hy : y = nI w) (h0 : ge_nb c w = none → post (-1)) (h1 : ∀ d, ge_nb c w = some d → d < 216 → post (nI d)) : wpX_neighbour post x y := by
  subst hx hy
  rcases ge_w hw with rfl | rfl | rfl | rfl | rfl | rfl
  · exact br_f (by decide) (br_t (by decide) (xn_23e (z := 1) (by omega) (by decide) (by decide) (by decide) (fun h => h0 (by rw [ge_0, if_pos (by omega)])) (fun h => h1 (c - 1) (by rw [ge_0, if_neg (by omega)]) (by omega))))
  · exact br_f (by decide) (br_t (by decide) (xn_23o (z := 1) (by omega) (by decide) (by decide) (by decide) (fun h => h0 (by rw [ge_1, if_pos (by omega)])) (fun h => h1 (c + 1) (by rw [ge_1, if_neg (by omega)]) (by omega))))
  · exact br_t (by decide) (br_t (by decide) (xn_23e (z := 6) (by omega) (by decide) (by decide) (by decide) (fun h => h0 (by rw [ge_2, if_pos (by omega)])) (fun h => h1 (c - 6) (by rw [ge_2, if_neg (by omega)]) (by omega))))
  · exact br_t (by decide) (br_t (by decide) (xn_23o (z := 6) (by omega) (by decide) (by decide) (by decide) (fun h => h0 (by rw [ge_3, if_pos (by omega)])) (fun h => h1 (c + 6) (by rw [ge_3, if_neg (by omega)]) (by omega))))
  · exact br_t (by decide) (br_f (by decide) (xn_23e (z := 36) (by omega) (by decide) (by decide) (by decide) (fun h => h0 (by rw [ge_4, if_pos (by omega)])) (fun h => h1 (c - 36) (by rw [ge_4, if_neg (by omega)]) (by omega))))
  · exact br_t (by decide) (br_f (by decide) (xn_23o (z := 36) (by omega) (by decide) (by decide) (by decide) (fun h => h0 (by rw [ge_5, if_pos (by omega)])) (fun h => h1 (c + 36) (by rw [ge_5, if_neg (by omega)]) (by omega))))
section XS
variable {post : SX → Prop} {w : Nat} {so se ri sn : Nat → Bool} {la lv st lo ke : Nat → Nat}
theorem xd_drop {x : Int32} (p : Nat) (hx : x = nI p) (hp : p < 432) (hw : w < 432) (h : post (nI (w + 1), ar_B so, ar_N la, ar_B se, ar_N (ar_u lv p 0), ar_B (ar_u ri p true), ar_N (ar_u st w p), ar_N (ar_u lo w (lv p)), ar_N ke, ar_B sn)) : wpX_drop post (nI w, ar_B so, ar_N la, ar_B se, ar_N lv, ar_B ri, ar_N st, ar_N lo, ar_N ke, ar_B sn) x := by
  subst hx
  have cw : (nI w).toNatClampNeg = w := nI_clamp (by omega)
  have cp : (nI p).toNatClampNeg = p := nI_clamp (by omega)
  have iw : vp_in (nI w) 432 := vp_in_nI hw (by decide)
  have ip : vp_in (nI p) 432 := vp_in_nI hp (by decide)
  exact ⟨iw, nm_r (ar_wN cw rfl) ⟨ip, ⟨iw, nm_r (ar_wN cw (ar_at cp)) (nm_r (nI_1 w) ⟨ip, nm_r (ar_wN (x := 0) cp rfl) ⟨ip, nm_r (ar_wT cp) h⟩⟩)⟩⟩⟩
theorem xs_source {post : Int32 → Prop} {p : Nat} (hp : p < 432) (h : post (nI (lf_src la se p))) : wpX_source post (nI w, ar_B so, ar_N la, ar_B se, ar_N lv, ar_B ri, ar_N st, ar_N lo, ar_N ke, ar_B sn) (nI p) := by
  refine pk_le 216 p (fun h1 => ?_) (fun h1 => ?_)
  · obtain ⟨x, rfl⟩ : ∃ x, p = 216 + x := ⟨p - 216, by omega⟩
    rw [lf_s2] at h
    have e : nI (216 + x) - 216 = nI x := by
      have := pk_sub (a := 216 + x) (b := 216) (by omega)
      rw [Nat.add_sub_cancel_left] at this
      exact this
    rw [e]
    refine ⟨vp_in_nI (by omega) (by decide), ar_br x (nI_clamp (by omega)) (fun hs => ?_) (fun hs => ?_)⟩
    · rw [hs] at h; exact h
    · rw [hs] at h; exact h
  · rw [lf_s1 h1] at h
    refine ⟨vp_in_nI h1 (by decide), ?_⟩
    rw [ar_at (nI_clamp (by omega))]; exact h
end XS
theorem xs_isCell {post : Int32 → Prop} {x : Int32} (h0 : (x < 0 ∨ 216 ≤ x) → post 0) (h1 : ∀ c, c < 216 → x = nI c → post 1) : wpX_isCell post x := by
  refine br_c (fun h => h0 (Or.inl h)) (fun h => br_c (fun h2 => h0 (Or.inr h2)) (fun h2 => ?_))
  rcases pk_ix x (n := 216) (by decide) with h3 | h3 | ⟨j, hj, e⟩
  · exact absurd h3 h
  · exact absurd h3 h2
  · exact h1 j hj e
end
section
/-! the component's takeAway -/
section XT
variable {post : SX → Prop} {so se sn : Nat → Bool} {la ke : Nat → Nat} {src : Nat → Nat} {sol : Nat → Bool} {lv0 : Nat → Nat}
theorem xt_86 {J : Int32 → Int32 → (Nat → Int32) → (Nat → Int32) → (Nat → Int32) → (Nat → Int32) → (Nat → Int32) → (Nat → Int32) → (Nat → Int32) → (Nat → Int32) → (Nat → Int32) → Prop} {s a l b m : Nat} (ha : a < 432) (hb : b = ge_b a) (hl : l ≤ 12) (hm : m ≤ 432)
    (K : ∀ w lv ri st lo, ta_J src sol lv0 a l 6 w lv ri st lo → cn_t (ta_c lv) 432 + w = m → J (nI (s + 1)) (nI w) (ar_B so) (ar_N la) (ar_B se) (ar_N lv) (ar_B ri) (ar_N st) (ar_N lo) (ar_N ke) (ar_B sn)) :
    ∀ k i, i + k = 6 → ∀ n, k < n → ∀ w lv ri st lo, ta_J src sol lv0 a l i w lv ri st lo → cn_t (ta_c lv) 432 + w = m → wX_takeAway_86 post J (nI s) (nI a) (nI l) (nI b) n (nI i) (nI w) (ar_B so) (ar_N la) (ar_B se) (ar_N lv) (ar_B ri) (ar_N st) (ar_N lo) (ar_N ke) (ar_B sn) := by
  have hb2 : b ≤ a ∧ a - b < 216 ∧ b ≤ 216 := by
    subst hb; unfold ge_b; split <;> omega
  intro k
  induction k with
  | zero =>
    intro i hi n hn w lv ri st lo hJ hc
    obtain ⟨n, rfl⟩ : ∃ m, n = m + 1 := ⟨n - 1, by omega⟩
    obtain rfl : i = 6 := by omega
    exact br_t (nI_le (a := 6) (b := 6) (by omega) (by decide)) (nm_r (nI_1 s) (K w lv ri st lo hJ hc))
  | succ k ih =>
    intro i hi n hn w lv ri st lo hJ hc
    obtain ⟨n, rfl⟩ : ∃ m, n = m + 1 := ⟨n - 1, by omega⟩
    refine br_f (nI_ge (a := i) (b := 6) (by omega) (by decide)) ?_
    refine xn_nb (a - b) i hb2.2.1 (by omega) (pk_sub hb2.1) rfl (fun hN => ?_) (fun d hd hd2 => ?_)
    · rw [hb] at hN
      exact br_t rfl (nm_r (nI_1 i) (ih (i + 1) (by omega) n (by omega) w lv ri st lo (ta_none (ge_nbn hN) hJ) hc))
    · rw [hb] at hd
      have hd3 := ge_nbb hd
      rw [← hb] at hd3
      have hc4 : b + d < 432 := by omega
      have cd : (nI (b + d)).toNatClampNeg = b + d := nI_clamp (by omega)
      have hlv := hJ.1 (b + d) hc4
      have ii : vp_in (nI (b + d)) 432 := vp_in_nI hc4 (by decide)
      refine br_f (ar_m1 (by omega)) ?_
      rw [nI_add b d]
      refine ⟨ii, pk_le (lv (b + d)) 0 (fun h0 => ?_) (fun h0 => ⟨ii, pk_le l (lv (b + d)) (fun h1 => ?_) (fun h1 => ?_) rfl (ar_at cd)⟩) (ar_at cd)⟩
      · exact nm_r (nI_1 i) (ih (i + 1) (by omega) n (by omega) w lv ri st lo (ta_adv hd3 (Or.inl (by omega)) hJ) hc)
      · exact ⟨ii, nm_r (ar_wT cd) (nm_r (nI_1 i) (ih (i + 1) (by omega) n (by omega) w lv _ st lo (ta_adv hd3 (Or.inr ⟨h1, ar_us⟩) (ta_rim (b + d) hJ)) hc))⟩
      · have hp := ta_cpos (lv := lv) hc4 (by omega)
        have hq := ta_cdrop (lv := lv) hc4 (by omega)
        refine xd_drop (b + d) rfl hc4 (by omega) ?_
        exact nm_r (nI_1 i) (ih (i + 1) (by omega) n (by omega) (w + 1) _ _ _ _ (ta_adv hd3 (Or.inl ar_us) (ta_drop hc4 hJ)) (by omega))
theorem xt_22 (K : ∀ w lv ri st lo, lf_H src sol lv ri → (∀ p, lv p ≤ lv0 p) → post (nI w, ar_B so, ar_N la, ar_B se, ar_N lv, ar_B ri, ar_N st, ar_N lo, ar_N ke, ar_B sn)) :
    ∀ k s, s + k = 432 → ∀ n, k < n → ∀ w lv ri st lo, ta_J src sol lv0 0 0 6 w lv ri st lo → cn_t (ta_c lv) 432 + w ≤ k → wX_takeAway_22 post n (nI s) (nI w) (ar_B so) (ar_N la) (ar_B se) (ar_N lv) (ar_B ri) (ar_N st) (ar_N lo) (ar_N ke) (ar_B sn) := by
  intro k
  induction k with
  | zero =>
    intro s hs n hn w lv ri st lo hJ hc
    obtain ⟨n, rfl⟩ : ∃ m, n = m + 1 := ⟨n - 1, by omega⟩
    obtain rfl : w = 0 := by omega
    exact br_t (nI_le (a := 432) (b := s) (by omega) (by omega)) (K 0 lv ri st lo (ta_end hJ) hJ.2.2.1)
  | succ k ih =>
    intro s hs n hn w lv ri st lo hJ hc
    obtain ⟨n, rfl⟩ : ∃ m, n = m + 1 := ⟨n - 1, by omega⟩
    refine br_f (nI_ge (a := s) (b := 432) (by omega) (by decide)) ?_
    refine pk_le w 0 (fun h0 => ?_) (fun h0 => ?_)
    · obtain rfl : w = 0 := by omega
      exact K 0 lv ri st lo (ta_end hJ) hJ.2.2.1
    · obtain ⟨v, rfl⟩ : ∃ v, w = v + 1 := ⟨w - 1, by omega⟩
      have cv : (nI v).toNatClampNeg = v := nI_clamp (by omega)
      have iv : vp_in (nI v) 432 := vp_in_nI (by omega) (by decide)
      have hst := hJ.2.1 v (by omega)
      have K2 : ∀ w' lv' ri' st' lo', ta_J src sol lv0 (st v) (lo v) 6 w' lv' ri' st' lo' → cn_t (ta_c lv') 432 + w' = cn_t (ta_c lv) 432 + v → wX_takeAway_22 post n (nI (s + 1)) (nI w') (ar_B so) (ar_N la) (ar_B se) (ar_N lv') (ar_B ri') (ar_N st') (ar_N lo') (ar_N ke) (ar_B sn) :=
        fun w' lv' ri' st' lo' hJ' hc' => ih (s + 1) (by omega) n (by omega) w' lv' ri' st' lo' (ta_six hJ') (by omega)
      refine nm_r (nI_pred v) ⟨iv, nm_r (ar_at cv) ⟨iv, nm_r (ar_at cv) (pk_le 216 (st v) (fun h1 => ?_) (fun h1 => ?_))⟩⟩
      · exact ⟨7, xt_86 (b := 216) hst.1 (by unfold ge_b; rw [if_neg (by omega)]) hst.2 (by omega) K2 6 0 rfl 7 (by decide) v lv ri st lo (ta_pop hJ) rfl⟩
      · exact ⟨7, xt_86 (b := 0) hst.1 (by unfold ge_b; rw [if_pos (by omega)]) hst.2 (by omega) K2 6 0 rfl 7 (by decide) v lv ri st lo (ta_pop hJ) rfl⟩
theorem xt_take {w : Nat} {lv : Nat → Nat} {ri : Nat → Bool} {st lo : Nat → Nat} {x : Int32} (p : Nat) (hx : x = nI p) (hp : p < 432) (H : lf_H src sol lv ri)
    (K : ∀ w' lv' ri' st' lo', lf_H src sol lv' ri' → lv' p = 0 → (∀ q, lv' q ≤ lv q) → post (nI w', ar_B so, ar_N la, ar_B se, ar_N lv', ar_B ri', ar_N st', ar_N lo', ar_N ke, ar_B sn)) : wpX_takeAway post (nI w, ar_B so, ar_N la, ar_B se, ar_N lv, ar_B ri, ar_N st, ar_N lo, ar_N ke, ar_B sn) x := by
  subst hx
  have cp : (nI p).toNatClampNeg = p := nI_clamp (by omega)
  have h12 := H.1 p hp
  refine ⟨vp_in_nI hp (by decide), pk_eq (lv p) 0 (fun h0 => K w lv ri st lo H h0 (fun _ => Nat.le_refl _)) (fun h0 => ?_) (ar_at cp)⟩
  refine xd_drop (w := 0) p rfl hp (by decide) ⟨433, ?_⟩
  have hq := ta_cdrop (lv := lv) hp h0
  have hle := cn_le (ta_c lv) 432
  have hJ : ta_J src sol lv 0 0 6 (0 + 1) (ar_u lv p 0) (ar_u ri p true) (ar_u st 0 p) (ar_u lo 0 (lv p)) := ta_drop hp (ta_start H)
  have hJ2 : ta_J src sol (ar_u lv p 0) 0 0 6 (0 + 1) (ar_u lv p 0) (ar_u ri p true) (ar_u st 0 p) (ar_u lo 0 (lv p)) := ⟨hJ.1, hJ.2.1, fun _ => Nat.le_refl _, hJ.2.2.2⟩
  refine xt_22 (lv0 := ar_u lv p 0) (fun w' lv' ri' st' lo' H' hle' => K w' lv' ri' st' lo' H' ?_ ?_) 432 0 rfl 433 (by decide) (0 + 1) _ _ _ _ hJ2 (by omega)
  · have := hle' p
    rw [ar_us] at this
    omega
  · intro q
    exact Nat.le_trans (hle' q) (hJ.2.2.1 q)
end XT
end
section
/-! the component's flow and pass -/
section XF
variable {post : SX → Prop} {w : Nat} {so se sn : Nat → Bool} {la st lo ke : Nat → Nat} {src : Nat → Nat}
theorem xf_118 {lv : Nat → Nat} (K : ∀ ri, post (nI w, ar_B so, ar_N la, ar_B se, ar_N lv, ar_B ri, ar_N st, ar_N lo, ar_N ke, ar_B sn)) : ∀ k i, i + k = 432 → ∀ n, k < n → ∀ ri, wX_flow_118 post (nI w) n (nI i) (ar_B so) (ar_N la) (ar_B se) (ar_N lv) (ar_B ri) (ar_N st) (ar_N lo) (ar_N ke) (ar_B sn) := by
  intro k
  induction k with
  | zero =>
    intro i hi n hn ri
    obtain ⟨n, rfl⟩ : ∃ m, n = m + 1 := ⟨n - 1, by omega⟩
    exact br_t (nI_le (a := 432) (b := i) (by omega) (by omega)) (K ri)
  | succ k ih =>
    intro i hi n hn ri
    obtain ⟨n, rfl⟩ : ∃ m, n = m + 1 := ⟨n - 1, by omega⟩
    exact br_f (nI_ge (a := i) (b := 432) (by omega) (by decide)) ⟨vp_in_nI (by omega) (by decide), nm_r (ar_wF (nI_clamp (by omega))) (nm_r (nI_1 i) (ih (i + 1) (by omega) n (by omega) _))⟩
theorem xp_18 {a l b i : Nat} (ha : a < 432) (hb : b = ge_b a) (hl : l + 1 ≤ 12)
    (K : ∀ lv ri, fp_P src (lf_sol so) a (l + 1) i 6 lv ri → post (nI w, ar_B so, ar_N la, ar_B se, ar_N lv, ar_B ri, ar_N st, ar_N lo, ar_N ke, ar_B sn)) :
    ∀ k j, j + k = 6 → ∀ n, k < n → ∀ lv ri, fp_P src (lf_sol so) a (l + 1) i j lv ri → wX_pass_18 post (nI a) (nI (l + 1)) (nI b) (nI w) n (nI j) (ar_B so) (ar_N la) (ar_B se) (ar_N lv) (ar_B ri) (ar_N st) (ar_N lo) (ar_N ke) (ar_B sn) := by
  have hb2 : b ≤ a ∧ a - b < 216 ∧ b ≤ 216 ∧ (b = 0 ∨ b = 216) := by
    subst hb; unfold ge_b; split <;> omega
  intro k
  induction k with
  | zero =>
    intro j hj n hn lv ri hP
    obtain ⟨n, rfl⟩ : ∃ m, n = m + 1 := ⟨n - 1, by omega⟩
    obtain rfl : j = 6 := by omega
    exact br_t (nI_le (a := 6) (b := 6) (by omega) (by decide)) (K lv ri hP)
  | succ k ih =>
    intro j hj n hn lv ri hP
    obtain ⟨n, rfl⟩ : ∃ m, n = m + 1 := ⟨n - 1, by omega⟩
    refine br_f (nI_ge (a := j) (b := 6) (by omega) (by decide)) ?_
    refine xn_nb (a - b) j hb2.2.1 (by omega) (pk_sub hb2.1) rfl (fun hN => ?_) (fun d hd hd2 => ?_)
    · rw [hb] at hN
      have hN2 := ge_nbn hN
      exact br_t rfl (nm_r (nI_1 j) (ih (j + 1) (by omega) n (by omega) lv ri (fp_keep (fun c hc => by rw [hN2] at hc; exact nomatch hc) hP)))
    · rw [hb] at hd
      have hd3 := ge_nbb hd
      rw [← hb] at hd3
      have hc4 : b + d < 432 := by omega
      have hsol : lf_sol so (b + d) = so d := by
        rcases hb2.2.2.2 with e | e
        · rw [e, Nat.zero_add]; exact lf_o1 hd2
        · rw [e]; exact lf_o2 hd2
      have cd : (nI (b + d)).toNatClampNeg = b + d := nI_clamp (by omega)
      have hlv := hP.1 (b + d) hc4
      have ii : vp_in (nI (b + d)) 432 := vp_in_nI hc4 (by decide)
      refine br_f (ar_m1 (by omega)) ⟨vp_in_nI hd2 (by decide), ar_br d (nI_clamp (by omega)) (fun hs => ?_) (fun hs => ?_)⟩
      · rw [nI_add b d, nI_pred l]
        refine ⟨ii, pk_le l (lv (b + d)) (fun h1 => ?_) (fun h1 => ?_) rfl (ar_at cd)⟩
        · exact nm_r (nI_1 j) (ih (j + 1) (by omega) n (by omega) lv ri (fp_keep (fun c hc _ => by rw [hd3] at hc; cases hc; omega) hP))
        · exact ⟨ii, nm_r (ar_wN cd rfl) ⟨ii, nm_r (ar_wT cd) (nm_r (nI_1 j) (ih (j + 1) (by omega) n (by omega) _ _ (fp_set ha (by omega) hd3 (by rw [hsol]; exact hs) (by omega) hP)))⟩⟩
      · exact nm_r (nI_1 j) (ih (j + 1) (by omega) n (by omega) lv ri (fp_keep (fun c hc hsc => by rw [hd3] at hc; cases hc; rw [hsol, hs] at hsc; exact nomatch hsc) hP))
theorem xp_pass {a l i : Nat} {lv : Nat → Nat} {ri : Nat → Bool} (ha : a < 432) (hl : l + 1 ≤ 12) (hP : fp_P src (lf_sol so) a (l + 1) i 0 lv ri)
    (K : ∀ lv ri, fp_P src (lf_sol so) a (l + 1) i 6 lv ri → post (nI w, ar_B so, ar_N la, ar_B se, ar_N lv, ar_B ri, ar_N st, ar_N lo, ar_N ke, ar_B sn)) : wpX_pass post (nI w, ar_B so, ar_N la, ar_B se, ar_N lv, ar_B ri, ar_N st, ar_N lo, ar_N ke, ar_B sn) (nI a) (nI (l + 1)) := by
  refine pk_le 216 a (fun h1 => ⟨7, ?_⟩) (fun h1 => ⟨7, ?_⟩)
  · exact xp_18 (b := 216) ha (by unfold ge_b; rw [if_neg (by omega)]) hl K 6 0 rfl 7 (by decide) lv ri hP
  · exact xp_18 (b := 0) ha (by unfold ge_b; rw [if_pos (by omega)]) hl K 6 0 rfl 7 (by decide) lv ri hP
theorem xf_65 {J : Int32 → Int32 → (Nat → Int32) → (Nat → Int32) → (Nat → Int32) → (Nat → Int32) → (Nat → Int32) → (Nat → Int32) → (Nat → Int32) → (Nat → Int32) → (Nat → Int32) → Prop} {l : Nat} (hl : l + 1 ≤ 12)
    (K : ∀ lv ri, fp_I src (lf_sol so) (l + 1) 432 lv ri → J (nI l) (nI w) (ar_B so) (ar_N la) (ar_B se) (ar_N lv) (ar_B ri) (ar_N st) (ar_N lo) (ar_N ke) (ar_B sn)) :
    ∀ k i, i + k = 432 → ∀ n, k < n → ∀ lv ri, fp_I src (lf_sol so) (l + 1) i lv ri → wX_flow_65 post J (nI (l + 1)) n (nI i) (nI w) (ar_B so) (ar_N la) (ar_B se) (ar_N lv) (ar_B ri) (ar_N st) (ar_N lo) (ar_N ke) (ar_B sn) := by
  intro k
  induction k with
  | zero =>
    intro i hi n hn lv ri hI
    obtain ⟨n, rfl⟩ : ∃ m, n = m + 1 := ⟨n - 1, by omega⟩
    obtain rfl : i = 432 := by omega
    exact br_t (nI_le (a := 432) (b := 432) (by omega) (by omega)) (nm_r (pk_m1 l) (K lv ri hI))
  | succ k ih =>
    intro i hi n hn lv ri hI
    obtain ⟨n, rfl⟩ : ∃ m, n = m + 1 := ⟨n - 1, by omega⟩
    have ci : (nI i).toNatClampNeg = i := nI_clamp (by omega)
    have ii : vp_in (nI i) 432 := vp_in_nI (by omega) (by decide)
    have hlv := hI.1 i (by omega)
    refine br_f (nI_ge (a := i) (b := 432) (by omega) (by decide)) ⟨ii, ar_br i ci (fun hr => ?_) (fun hr => ⟨ii, pk_eq (lv i) (l + 1) (fun h1 => ?_) (fun h1 => ?_) (ar_at ci)⟩)⟩
    · exact nm_r (nI_1 i) (ih (i + 1) (by omega) n (by omega) lv ri (fp_skip (Or.inl hr) hI))
    · refine ⟨ii, nm_r (ar_wF ci) ?_⟩
      refine xp_pass (by omega) hl (fp_in h1 hI) (fun lv' ri' hP => ?_)
      exact nm_r (nI_1 i) (ih (i + 1) (by omega) n (by omega) lv' ri' (fp_out hP))
    · exact nm_r (nI_1 i) (ih (i + 1) (by omega) n (by omega) lv ri (fp_skip (Or.inr h1) hI))
theorem xf_59 (K : ∀ lv ri, lf_F src (lf_sol so) lv → post (nI w, ar_B so, ar_N la, ar_B se, ar_N lv, ar_B ri, ar_N st, ar_N lo, ar_N ke, ar_B sn)) :
    ∀ l, l ≤ 12 → ∀ n, l < n → ∀ lv ri, fp_I src (lf_sol so) l 0 lv ri → wX_flow_59 post n (nI l) (nI w) (ar_B so) (ar_N la) (ar_B se) (ar_N lv) (ar_B ri) (ar_N st) (ar_N lo) (ar_N ke) (ar_B sn) := by
  intro l
  induction l with
  | zero =>
    intro hl n hn lv ri hI
    obtain ⟨n, rfl⟩ : ∃ m, n = m + 1 := ⟨n - 1, by omega⟩
    exact br_t (nI_le (a := 0) (b := 0) (by omega) (by omega)) ⟨433, xf_118 (fun ri => K lv ri (fp_end hI)) 432 0 rfl 433 (by decide) ri⟩
  | succ l ih =>
    intro hl n hn lv ri hI
    obtain ⟨n, rfl⟩ : ∃ m, n = m + 1 := ⟨n - 1, by omega⟩
    exact br_f (nI_ge (a := 0) (b := l + 1) (by omega) (by omega)) ⟨433, xf_65 hl (fun lv ri hI' => ih (by omega) n (by omega) lv ri (fp_dn hI')) 432 0 rfl 433 (by decide) lv ri hI⟩
theorem xf_2 (h12 : ∀ p, p < 432 → lf_src la se p ≤ 12) (K : ∀ lv ri, lf_F (lf_src la se) (lf_sol so) lv → post (nI w, ar_B so, ar_N la, ar_B se, ar_N lv, ar_B ri, ar_N st, ar_N lo, ar_N ke, ar_B sn)) :
    ∀ k i, i + k = 432 → ∀ n, k < n → ∀ lv ri, fl_I (lf_src la se) (lf_sol so) i lv ri → wX_flow_2 post (nI w) n (nI i) (ar_B so) (ar_N la) (ar_B se) (ar_N lv) (ar_B ri) (ar_N st) (ar_N lo) (ar_N ke) (ar_B sn) := by
  intro k
  induction k with
  | zero =>
    intro i hi n hn lv ri hI
    obtain ⟨n, rfl⟩ : ∃ m, n = m + 1 := ⟨n - 1, by omega⟩
    obtain rfl : i = 432 := by omega
    exact br_t (nI_le (a := 432) (b := 432) (by omega) (by omega)) ⟨13, xf_59 K 12 (by omega) 13 (by decide) lv ri (fp_0 hI)⟩
  | succ k ih =>
    intro i hi n hn lv ri hI
    obtain ⟨n, rfl⟩ : ∃ m, n = m + 1 := ⟨n - 1, by omega⟩
    have ci : (nI i).toNatClampNeg = i := nI_clamp (by omega)
    have ii : vp_in (nI i) 432 := vp_in_nI (by omega) (by decide)
    have hlv := hI.1.1 i (by omega)
    have hsrc := h12 i (by omega)
    refine br_f (nI_ge (a := i) (b := 432) (by omega) (by decide)) ⟨ii, ar_br i ci (fun hr => ?_) (fun hr => ?_)⟩
    · exact nm_r (nI_1 i) (ih (i + 1) (by omega) n (by omega) lv ri (fl_skip hr hI))
    · refine xs_source (by omega) ⟨ii, pk_le (lf_src la se i) (lv i) (fun h1 => ?_) (fun h1 => ?_) rfl (ar_at ci)⟩
      · exact ⟨ii, ⟨ii, nm_r (ar_wN ci (ar_at ci)) (nm_r (nI_1 i) (ih (i + 1) (by omega) n (by omega) _ ri (fl_step hr (Nat.le_refl _) h1 (Or.inl rfl) hlv hI)))⟩⟩
      · exact ⟨ii, nm_r (ar_wN ci rfl) (nm_r (nI_1 i) (ih (i + 1) (by omega) n (by omega) _ ri (fl_step hr (by omega) (Nat.le_refl _) (Or.inr rfl) hsrc hI)))⟩
theorem xf_flow {lv : Nat → Nat} {ri : Nat → Bool} (h12 : ∀ p, p < 432 → lf_src la se p ≤ 12) (H : lf_H (lf_src la se) (lf_sol so) lv ri) (K : ∀ lv ri, lf_F (lf_src la se) (lf_sol so) lv → post (nI w, ar_B so, ar_N la, ar_B se, ar_N lv, ar_B ri, ar_N st, ar_N lo, ar_N ke, ar_B sn)) : wpX_flow post (nI w, ar_B so, ar_N la, ar_B se, ar_N lv, ar_B ri, ar_N st, ar_N lo, ar_N ke, ar_B sn) :=
  ⟨433, xf_2 h12 K 432 0 rfl 433 (by decide) lv ri (fl_0 H)⟩
end XF
end
section
/-! the component's setLamp and change -/
section XC
variable {post : SX → Prop} {so se sn : Nat → Bool} {la ke : Nat → Nat}
theorem xc_lamp {w c s : Nat} {lv : Nat → Nat} {ri : Nat → Bool} {st lo : Nat → Nat} (hc : c < 216) (hs : s ≤ 12) (I : rl_I so la se lv)
    (K : ∀ w lv ri st lo, rl_I so (ar_u la c s) se lv → post (nI w, ar_B so, ar_N (ar_u la c s), ar_B se, ar_N lv, ar_B ri, ar_N st, ar_N lo, ar_N ke, ar_B sn)) : wpX_setLamp post (nI w, ar_B so, ar_N la, ar_B se, ar_N lv, ar_B ri, ar_N st, ar_N lo, ar_N ke, ar_B sn) (nI c) (nI s) := by
  have cc : (nI c).toNatClampNeg = c := nI_clamp (by omega)
  have hla : ∀ x, x < 216 → ar_u la c s x ≤ 12 := fun x hx => by
    by_cases e : x = c
    · subst e; rw [ar_us]; exact hs
    · rw [ar_un e]; exact I.1 x hx
  unfold wpX_setLamp
  dsimp only
  refine xt_take c rfl (by omega) (lf_FH I.2.2) (fun w' lv' ri' st' lo' H h0 _ => ?_)
  refine ⟨vp_in_nI hc (by decide), nm_r (ar_wN cc rfl) ⟨vp_in_nI (by omega) (by decide), nm_r (ar_wT cc) ?_⟩⟩
  exact xf_flow (fun p hp => lf_src12 hla hp) (ch_lamp hc h0 H) (fun lv ri hF => K _ _ _ _ _ ⟨hla, I.2.1, hF⟩)
theorem xc_154 {w c : Nat} {lv st lo : Nat → Nat} {ri0 : Nat → Bool} (hc : c < 216) (h12 : ∀ p, p < 432 → lf_src la se p ≤ 12)
    (H : ∀ ri, (∀ p, ri0 p = true → ri p = true) → (∀ d, ge_adj c d → ri d = true ∧ ri (216 + d) = true) → lf_H (lf_src la se) (lf_sol so) lv ri)
    (K : ∀ lv ri, lf_F (lf_src la se) (lf_sol so) lv → post (nI w, ar_B so, ar_N la, ar_B se, ar_N lv, ar_B ri, ar_N st, ar_N lo, ar_N ke, ar_B sn)) :
    ∀ k i, i + k = 6 → ∀ n, k < n → ∀ ri, (∀ p, ri0 p = true → ri p = true) → (∀ j, j < i → ∀ d, ge_nb c j = some d → ri d = true ∧ ri (216 + d) = true) → wX_change_154 post (nI c) (nI w) n (nI i) (ar_B so) (ar_N la) (ar_B se) (ar_N lv) (ar_B ri) (ar_N st) (ar_N lo) (ar_N ke) (ar_B sn) := by
  intro k
  induction k with
  | zero =>
    intro i hi n hn ri h1 h2
    obtain ⟨n, rfl⟩ : ∃ m, n = m + 1 := ⟨n - 1, by omega⟩
    refine br_t (nI_le (a := 6) (b := i) (by omega) (by omega)) ?_
    exact xf_flow h12 (H ri h1 (fun d hd => by obtain ⟨j, hj, he⟩ := hd; exact h2 j (by omega) d he)) (fun lv ri hF => K lv ri hF)
  | succ k ih =>
    intro i hi n hn ri h1 h2
    obtain ⟨n, rfl⟩ : ∃ m, n = m + 1 := ⟨n - 1, by omega⟩
    refine br_f (nI_ge (a := i) (b := 6) (by omega) (by decide)) ?_
    refine xn_nb c i hc (by omega) rfl rfl (fun hN => ?_) (fun d hd hd2 => ?_)
    · refine br_t rfl (nm_r (nI_1 i) (ih (i + 1) (by omega) n (by omega) ri h1 (fun j hj d hd => ?_)))
      by_cases e : j = i
      · subst e; rw [hN] at hd; exact nomatch hd
      · exact h2 j (by omega) d hd
    · have e1 : (216 : Int32) + nI d = nI (216 + d) := nI_add 216 d
      refine br_f (ar_m1 (by omega)) ⟨vp_in_nI (by omega) (by decide), nm_r (ar_wT (nI_clamp (by omega))) ?_⟩
      rw [e1]
      refine ⟨vp_in_nI (by omega) (by decide), nm_r (ar_wT (nI_clamp (by omega))) (nm_r (nI_1 i) (ih (i + 1) (by omega) n (by omega) _ (fun p hp => ?_) (fun j hj d' hd' => ?_)))⟩
      · by_cases e2 : p = 216 + d
        · subst e2; exact ar_us
        · rw [ar_un e2]
          by_cases e3 : p = d
          · subst e3; exact ar_us
          · rw [ar_un e3]; exact h1 p hp
      · have hh : ∀ p, ri p = true → ar_u (ar_u ri d true) (216 + d) true p = true := fun p hp => by
          by_cases e2 : p = 216 + d
          · subst e2; exact ar_us
          · rw [ar_un e2]
            by_cases e3 : p = d
            · subst e3; exact ar_us
            · rw [ar_un e3]; exact hp
        by_cases e : j = i
        · subst e
          rw [hd] at hd'
          cases hd'
          exact ⟨by rw [ar_un (by omega)]; exact ar_us, ar_us⟩
        · have := h2 j (by omega) d' hd'
          exact ⟨hh _ this.1, hh _ this.2⟩
/-- what the loop over the column and the loop over the ways need -/
theorem xc_93e {w c : Nat} {lv st lo : Nat → Nat} {ri : Nat → Bool} {n : Nat} {x3 x4 : Int32} (hx : x4 < 0) (hc : c < 216) (h12 : ∀ p, p < 432 → lf_src la se p ≤ 12)
    (H : ∀ ri', (∀ p, ri p = true → ri' p = true) → (∀ d, ge_adj c d → ri' d = true ∧ ri' (216 + d) = true) → lf_H (lf_src la se) (lf_sol so) lv ri')
    (K : ∀ lv ri, lf_F (lf_src la se) (lf_sol so) lv → post (nI w, ar_B so, ar_N la, ar_B se, ar_N lv, ar_B ri, ar_N st, ar_N lo, ar_N ke, ar_B sn)) : wX_change_93 post (nI c) (nI w) (n + 1) x3 x4 (ar_B so) (ar_N la) (ar_B se) (ar_N lv) (ar_B ri) (ar_N st) (ar_N lo) (ar_N ke) (ar_B sn) := by
  refine br_t hx ⟨vp_in_nI (by omega) (by decide), nm_r (ar_wT (nI_clamp (by omega))) ⟨7, ?_⟩⟩
  refine xc_154 (ri0 := ri) hc h12 H K 6 0 rfl 7 (by decide) _ (fun p hp => ?_) (fun j hj => absurd hj (Nat.not_lt_zero j))
  by_cases e : p = c
  · subst e; exact ar_us
  · rw [ar_un e]; exact hp
theorem xc_117 {J : Int32 → Int32 → (Nat → Int32) → (Nat → Int32) → (Nat → Int32) → (Nat → Int32) → (Nat → Int32) → (Nat → Int32) → (Nat → Int32) → (Nat → Int32) → (Nat → Int32) → Prop} {w c b : Nat} {lv st lo : Nat → Nat} {se ri : Nat → Bool} {z : Bool} (hb : b < 216)
    (h : J (ar_b z) (nI b + (-36)) (ar_B so) (ar_N la) (ar_B (ar_u se b z)) (ar_N lv) (ar_B (ar_u ri (216 + b) true)) (ar_N st) (ar_N lo) (ar_N ke) (ar_B sn)) : wX_change_117 post J (nI c) (nI b) (ar_b z) (nI w) (ar_B so) (ar_N la) (ar_B se) (ar_N lv) (ar_B ri) (ar_N st) (ar_N lo) (ar_N ke) (ar_B sn) := by
  have e1 : (216 : Int32) + nI b = nI (216 + b) := nI_add 216 b
  unfold wX_change_117
  rw [e1]
  exact ⟨vp_in_nI hb (by decide), nm_r (ar_wb (nI_clamp (by omega))) ⟨vp_in_nI (by omega) (by decide), nm_r (ar_wT (nI_clamp (by omega))) (nm_e h)⟩⟩
theorem xc_m36 {b : Nat} (h : 36 ≤ b) : nI b + (-36) = nI (b - 36) := by
  obtain ⟨c, rfl⟩ : ∃ c, b = c + 36 := ⟨b - 36, by omega⟩
  rw [← nI_add, Int32.add_assoc, show nI 36 + (-36) = 0 from by decide, Int32.add_zero, Nat.add_sub_cancel]
theorem xc_n36 {b : Nat} (h : b < 36) : nI b + (-36) < 0 := by
  have e : nI b + (-36) = nI b - nI 36 := by rw [Int32.sub_eq_add_neg]; rfl
  rw [e]; exact pk_sneg (by decide) h
/-- the column: x3 is 'sky so far', b the cell -/
theorem xc_93 {w c : Nat} {lv st lo : Nat → Nat} {se0 ri0 : Nat → Bool} (hc : c < 216)
    (H : ∀ se ri, ch_E so se0 ri0 c se ri → ∀ n x3 x4, x4 < 0 → wX_change_93 post (nI c) (nI w) (n + 1) x3 x4 (ar_B so) (ar_N la) (ar_B se) (ar_N lv) (ar_B ri) (ar_N st) (ar_N lo) (ar_N ke) (ar_B sn)) :
    ∀ k b, b ≤ k → ∀ n, k + 1 < n → ∀ sky se ri, ch_C so se0 ri0 c b sky se ri → wX_change_93 post (nI c) (nI w) n (ar_b sky) (nI b) (ar_B so) (ar_N la) (ar_B se) (ar_N lv) (ar_B ri) (ar_N st) (ar_N lo) (ar_N ke) (ar_B sn) := by
  intro k
  induction k with
  | zero =>
    intro b hb n hn sky se ri hC
    obtain ⟨n, rfl⟩ : ∃ m, n = m + 2 := ⟨n - 2, by omega⟩
    have hb3 : b < 36 := by omega
    have hl := ch_last hc hb3 hC
    refine br_f (nI_pos (by omega)) (ar_brb (fun hsk => ?_) (fun hsk => ⟨vp_in_nI (by omega) (by decide), ar_br b (nI_clamp (by omega)) (fun hs => ?_) (fun hs => ?_)⟩))
    · rw [hsk, Bool.false_and] at hl
      exact xc_117 (z := false) (by omega) (H _ _ hl n _ _ (xc_n36 hb3))
    · rw [hsk, hs] at hl
      exact xc_117 (z := true) (by omega) (H _ _ hl n _ _ (xc_n36 hb3))
    · rw [hsk, hs] at hl
      exact xc_117 (z := false) (by omega) (H _ _ hl n _ _ (xc_n36 hb3))
  | succ k ih =>
    intro b hb n hn sky se ri hC
    obtain ⟨n, rfl⟩ : ∃ m, n = m + 2 := ⟨n - 2, by omega⟩
    have hbc := hC.1.1
    by_cases hb3 : b < 36
    · have hl := ch_last hc hb3 hC
      refine br_f (nI_pos (by omega)) (ar_brb (fun hsk => ?_) (fun hsk => ⟨vp_in_nI (by omega) (by decide), ar_br b (nI_clamp (by omega)) (fun hs => ?_) (fun hs => ?_)⟩))
      · rw [hsk, Bool.false_and] at hl
        exact xc_117 (z := false) (by omega) (H _ _ hl n _ _ (xc_n36 hb3))
      · rw [hsk, hs] at hl
        exact xc_117 (z := true) (by omega) (H _ _ hl n _ _ (xc_n36 hb3))
      · rw [hsk, hs] at hl
        exact xc_117 (z := false) (by omega) (H _ _ hl n _ _ (xc_n36 hb3))
    · have hl := ch_dn hc (by omega) hC
      have e36 := xc_m36 (b := b) (by omega)
      refine br_f (nI_pos (by omega)) (ar_brb (fun hsk => ?_) (fun hsk => ⟨vp_in_nI (by omega) (by decide), ar_br b (nI_clamp (by omega)) (fun hs => ?_) (fun hs => ?_)⟩))
      · rw [hsk, Bool.false_and] at hl
        refine xc_117 (z := false) (by omega) ?_
        rw [e36]
        exact ih (b - 36) (by omega) (n + 1) (by omega) false _ _ hl
      · rw [hsk, hs] at hl
        refine xc_117 (z := true) (by omega) ?_
        rw [e36]
        exact ih (b - 36) (by omega) (n + 1) (by omega) true _ _ hl
      · rw [hsk, hs] at hl
        refine xc_117 (z := false) (by omega) ?_
        rw [e36]
        exact ih (b - 36) (by omega) (n + 1) (by omega) false _ _ hl
/-- behind the takings-away -/
theorem xc_27e {w c n : Nat} {b : Bool} {lv st lo : Nat → Nat} {ri : Nat → Bool} {x3 : Int32} (hx : x3 < 0) (hc : c < 216) (hla : ∀ x, x < 216 → la x ≤ 12) (hSe : ∀ x, x < 216 → lf_Se so se x)
    (H : lf_H (lf_src la se) (lf_sol so) lv ri) (z1 : lv c = 0) (z2 : lv (216 + c) = 0) (z3 : ∀ x, x ≤ c → x % 36 = c % 36 → se x = true → lv (216 + x) = 0)
    (K : ∀ w se lv ri st lo, rl_I (ar_u so c b) la se lv → post (nI w, ar_B (ar_u so c b), ar_N la, ar_B se, ar_N lv, ar_B ri, ar_N st, ar_N lo, ar_N ke, ar_B sn)) : wX_change_27 post (nI c) (ar_b b) (n + 1) x3 (nI w) (ar_B so) (ar_N la) (ar_B se) (ar_N lv) (ar_B ri) (ar_N st) (ar_N lo) (ar_N ke) (ar_B sn) := by
  refine br_t hx ⟨vp_in_nI hc (by decide), nm_r (ar_wb (nI_clamp (by omega))) ?_⟩
  have hso : ∀ x, x ≠ c → ar_u so c b x = so x := fun x hx => ar_un hx
  have KK : ∃ n93, wX_change_93 post (nI c) (nI w) n93 (ar_b (decide (216 ≤ c + 36) || se (c + 36))) (nI c) (ar_B (ar_u so c b)) (ar_N la) (ar_B se) (ar_N lv) (ar_B ri) (ar_N st) (ar_N lo) (ar_N ke) (ar_B sn) := by
    refine ⟨c + 2, xc_93 (se0 := se) (ri0 := ri) hc (fun se' ri' hE n x3 x4 hx4 => ?_) c c (Nat.le_refl c) (c + 2) (by omega) _ se ri (ch_C0 hso hSe)⟩
    refine xc_93e hx4 hc (fun p hp => lf_src12 hla hp) (fun ri2 h1 h2 => ?_) (fun lv' ri2 hF => K _ _ _ _ _ _ ⟨hla, hE.1, hF⟩)
    refine ch_solid hc H hso z1 z2 (fun x hx => ?_) (fun p hp => h1 p (hE.2.2.2 p hp)) h2
    by_cases e : x ≤ c ∧ x % 36 = c % 36
    · exact Or.inr ⟨z3 x e.1 e.2, h1 _ (hE.2.2.1 x e.1 e.2)⟩
    · exact Or.inl (hE.2.1 x e)
  have e36 : nI c + 36 = nI (c + 36) := nI_add c 36
  rw [e36]
  refine pk_le 216 (c + 36) (fun h1 => ?_) (fun h1 => ⟨vp_in_nI (by omega) (by decide), ar_br (c + 36) (nI_clamp (by omega)) (fun hs => ?_) (fun hs => ?_)⟩)
  · rw [decide_eq_true h1, Bool.true_or] at KK; exact KK
  · rw [decide_eq_false (by omega), Bool.false_or, hs] at KK; exact KK
  · rw [decide_eq_false (by omega), Bool.false_or, hs] at KK; exact KK
theorem xc_27 {c : Nat} {b : Bool} (hc : c < 216) (hla : ∀ x, x < 216 → la x ≤ 12) (hSe : ∀ x, x < 216 → lf_Se so se x)
    (K : ∀ w se lv ri st lo, rl_I (ar_u so c b) la se lv → post (nI w, ar_B (ar_u so c b), ar_N la, ar_B se, ar_N lv, ar_B ri, ar_N st, ar_N lo, ar_N ke, ar_B sn)) :
    ∀ k d, d ≤ k → d ≤ c → d % 36 = c % 36 → ∀ n, k + 1 < n → ∀ w lv ri st lo, lf_H (lf_src la se) (lf_sol so) lv ri → lv c = 0 → lv (216 + c) = 0 → (∀ x, d < x → x ≤ c → x % 36 = c % 36 → se x = true → lv (216 + x) = 0) → wX_change_27 post (nI c) (ar_b b) n (nI d) (nI w) (ar_B so) (ar_N la) (ar_B se) (ar_N lv) (ar_B ri) (ar_N st) (ar_N lo) (ar_N ke) (ar_B sn) := by
  intro k
  induction k with
  | zero =>
    intro d hd hdc hd36 n hn w lv ri st lo H z1 z2 z3
    obtain ⟨n, rfl⟩ : ∃ m, n = m + 2 := ⟨n - 2, by omega⟩
    have e1 : (216 : Int32) + nI d = nI (216 + d) := nI_add 216 d
    refine br_f (nI_pos (by omega)) ⟨vp_in_nI (by omega) (by decide), ar_br d (nI_clamp (by omega)) (fun hs => ?_) (fun hs => ?_)⟩
    · refine nm_e (xc_27e (xc_n36 (by omega)) hc hla hSe H z1 z2 (fun x h1 h2 h3 => ?_) K)
      by_cases e : x = d
      · subst e; rw [hs] at h3; exact nomatch h3
      · exact z3 x (by omega) h1 h2 h3
    · refine xt_take (216 + d) e1 (by omega) H (fun w' lv' ri' st' lo' H' h0 hle => ?_)
      have y1 := hle c
      have y2 := hle (216 + c)
      refine nm_e (xc_27e (xc_n36 (by omega)) hc hla hSe H' (by omega) (by omega) (fun x h1 h2 h3 => ?_) K)
      by_cases e : x = d
      · subst e; exact h0
      · have := z3 x (by omega) h1 h2 h3
        have := hle (216 + x)
        omega
  | succ k ih =>
    intro d hd hdc hd36 n hn w lv ri st lo H z1 z2 z3
    obtain ⟨n, rfl⟩ : ∃ m, n = m + 2 := ⟨n - 2, by omega⟩
    have e1 : (216 : Int32) + nI d = nI (216 + d) := nI_add 216 d
    by_cases hd3 : d < 36
    · refine br_f (nI_pos (by omega)) ⟨vp_in_nI (by omega) (by decide), ar_br d (nI_clamp (by omega)) (fun hs => ?_) (fun hs => ?_)⟩
      · refine nm_e (xc_27e (xc_n36 hd3) hc hla hSe H z1 z2 (fun x h1 h2 h3 => ?_) K)
        by_cases e : x = d
        · subst e; rw [hs] at h3; exact nomatch h3
        · exact z3 x (by omega) h1 h2 h3
      · refine xt_take (216 + d) e1 (by omega) H (fun w' lv' ri' st' lo' H' h0 hle => ?_)
        have y1 := hle c
        have y2 := hle (216 + c)
        refine nm_e (xc_27e (xc_n36 hd3) hc hla hSe H' (by omega) (by omega) (fun x h1 h2 h3 => ?_) K)
        by_cases e : x = d
        · subst e; exact h0
        · have := z3 x (by omega) h1 h2 h3
          have := hle (216 + x)
          omega
    · have e36 := xc_m36 (b := d) (by omega)
      refine br_f (nI_pos (by omega)) ⟨vp_in_nI (by omega) (by decide), ar_br d (nI_clamp (by omega)) (fun hs => ?_) (fun hs => ?_)⟩
      · refine nm_r e36 (ih (d - 36) (by omega) (by omega) (by omega) (n + 1) (by omega) w lv ri st lo H z1 z2 (fun x h0 h1 h2 h3 => ?_))
        by_cases e : x = d
        · subst e; rw [hs] at h3; exact nomatch h3
        · exact z3 x (by omega) h1 h2 h3
      · refine xt_take (216 + d) e1 (by omega) H (fun w' lv' ri' st' lo' H' h0 hle => ?_)
        have y1 := hle c
        have y2 := hle (216 + c)
        refine nm_r e36 (ih (d - 36) (by omega) (by omega) (by omega) (n + 1) (by omega) w' lv' ri' st' lo' H' (by omega) (by omega) (fun x h5 h1 h2 h3 => ?_))
        by_cases e : x = d
        · subst e; exact h0
        · have := z3 x (by omega) h1 h2 h3
          have := hle (216 + x)
          omega
theorem xc_change {w c : Nat} {b : Bool} {lv st lo : Nat → Nat} {ri : Nat → Bool} {x : Int32} (hx : x = nI c) (hc : c < 216) (I : rl_I so la se lv)
    (K : ∀ w se lv ri st lo, rl_I (ar_u so c b) la se lv → post (nI w, ar_B (ar_u so c b), ar_N la, ar_B se, ar_N lv, ar_B ri, ar_N st, ar_N lo, ar_N ke, ar_B sn)) : wpX_change post (nI w, ar_B so, ar_N la, ar_B se, ar_N lv, ar_B ri, ar_N st, ar_N lo, ar_N ke, ar_B sn) x (ar_b b) := by
  subst hx
  have e1 : (216 : Int32) + nI c = nI (216 + c) := nI_add 216 c
  have cc : (nI c).toNatClampNeg = c := nI_clamp (by omega)
  refine ⟨vp_in_nI hc (by decide), br_c (fun h => ?_) (fun h => ?_)⟩
  · rw [cc] at h
    have h2 : so c = b := ar_bi.mp h
    have h3 : ar_u so c b = so := by
      funext j
      by_cases e : j = c
      · subst e; rw [ar_us]; exact h2.symm
      · rw [ar_un e]
    rw [h3] at K
    exact K w se lv ri st lo I
  · refine xt_take c rfl (by omega) (lf_FH I.2.2) (fun w1 lv1 ri1 st1 lo1 H1 h1 _ => ?_)
    refine xt_take (216 + c) e1 (by omega) H1 (fun w2 lv2 ri2 st2 lo2 H2 h2 hle => ⟨c + 2, ?_⟩)
    have := hle c
    exact xc_27 hc I.1 I.2.1 K c c (Nat.le_refl c) (Nat.le_refl c) rfl (c + 2) (by omega) w2 lv2 ri2 st2 lo2 H2 (by omega) h2 (fun x h5 h6 => by omega)
end XC
end
section
/-! the reference's small methods; boxes and cells of both -/
def ce_ok (x : Int32) : Prop := ∃ c, c < 216 ∧ x = nI c
theorem ce_no {x : Int32} (h : x < 0 ∨ 216 ≤ x) : ¬ ce_ok x := by
  rintro ⟨c, hc, rfl⟩
  rcases h with h | h
  · exact nI_pos (n := c) (by omega) h
  · exact nI_ge (a := c) (b := 216) hc (by decide) h
theorem xb_isCell {post : Int32 → Prop} {x : Int32} (h0 : ¬ ce_ok x → post 0) (h1 : ce_ok x → post 1) : wpX_isCell post x :=
  xs_isCell (fun h => h0 (ce_no h)) (fun c hc e => h1 ⟨c, hc, e⟩)
section YS
variable {b1 b2 b3 b4 b5 b6 : Nat → Int32}
theorem yb_bad {post : Int32 → Prop} {x : Int32} (h0 : ¬ ce_ok x → post 1) (h1 : ce_ok x → post 0) : wpY_bad post (b1, b2, b3, b4, b5, b6) x := by
  refine br_c (fun h => h0 (ce_no (Or.inl h))) (fun h => ?_)
  obtain ⟨j, hj, rfl⟩ := nI_of h
  refine pk_le j 215 (fun h2 => h1 ⟨j, by omega, rfl⟩) (fun h2 => h0 (ce_no (Or.inr (nI_le (a := 216) (by omega) hj))))
theorem bx_r {a : Nat} (h : a < 216) : nI a - nI a / 6 * 6 = nI (a % 6) := pk_rem (d := 6) (by omega) (by decide) (by decide)
theorem bx_d6 {a : Nat} (h : a < 216) : nI a / 6 = nI (a / 6) := pk_div (d := 6) (by omega) (by decide) (by decide)
theorem bx_d36 {a : Nat} (h : a < 216) : nI a / 36 = nI (a / 36) := pk_div (d := 36) (by omega) (by decide) (by decide)
theorem bx_q {a : Nat} (h : a < 216) : nI a / 6 - nI a / 6 / 6 * 6 = nI (a / 6 % 6) := by
  rw [bx_d6 h]; exact pk_rem (d := 6) (by omega) (by decide) (by decide)
theorem yn_bs {post : Int32 → Prop} {x y : Int32} (c t : Nat) (hc : c < 216) (ht : t < 6) (hx : x = nI c) (hy : y = nI t) (h0 : ge_nb c (ge_fl t) = none → post (-1)) (h1 : ∀ d, ge_nb c (ge_fl t) = some d → d < 216 → post (nI d)) : wpY_beside post (b1, b2, b3, b4, b5, b6) x y := by
  subst hx hy
  have e1 := bx_r hc
  have e2 := bx_q hc
  have e3 := bx_d36 hc
  rcases ge_w ht with rfl | rfl | rfl | rfl | rfl | rfl
  · refine br_t (by decide) ⟨by decide, pk_le 5 (c % 6) (fun h => ?_) (fun h => ?_) rfl e1⟩
    · exact h0 (by show ge_nb c 1 = _; rw [ge_1, if_pos (by omega)])
    · rw [nI_1 c]; exact h1 (c + 1) (by show ge_nb c 1 = _; rw [ge_1, if_neg (by omega)]) (by omega)
  · refine br_f (by decide) (br_t (by decide) ⟨by decide, pk_le (c % 6) 0 (fun h => ?_) (fun h => ?_) e1⟩)
    · exact h0 (by show ge_nb c 0 = _; rw [ge_0, if_pos (by omega)])
    · have e4 : nI c - 1 = nI (c - 1) := pk_sub (b := 1) (by omega)
      rw [e4]; exact h1 (c - 1) (by show ge_nb c 0 = _; rw [ge_0, if_neg (by omega)]) (by omega)
  · refine br_f (by decide) (br_f (by decide) (br_t (by decide) ⟨by decide, by decide, pk_le 5 (c / 6 % 6) (fun h => ?_) (fun h => ?_) rfl e2⟩))
    · exact h0 (by show ge_nb c 3 = _; rw [ge_3, if_pos (by omega)])
    · have e4 : nI c + 6 = nI (c + 6) := nI_add c 6
      rw [e4]; exact h1 (c + 6) (by show ge_nb c 3 = _; rw [ge_3, if_neg (by omega)]) (by omega)
  · refine br_f (by decide) (br_f (by decide) (br_f (by decide) (br_t (by decide) ⟨by decide, by decide, pk_le (c / 6 % 6) 0 (fun h => ?_) (fun h => ?_) e2⟩)))
    · exact h0 (by show ge_nb c 2 = _; rw [ge_2, if_pos (by omega)])
    · have e4 : nI c - 6 = nI (c - 6) := pk_sub (b := 6) (by omega)
      rw [e4]; exact h1 (c - 6) (by show ge_nb c 2 = _; rw [ge_2, if_neg (by omega)]) (by omega)
  · refine br_f (by decide) (br_f (by decide) (br_f (by decide) (br_f (by decide) (br_t (by decide) ⟨by decide, pk_le 5 (c / 36) (fun h => ?_) (fun h => ?_) rfl e3⟩))))
    · exact h0 (by show ge_nb c 5 = _; rw [ge_5, if_pos (by omega)])
    · have e4 : nI c + 36 = nI (c + 36) := nI_add c 36
      rw [e4]; exact h1 (c + 36) (by show ge_nb c 5 = _; rw [ge_5, if_neg (by omega)]) (by omega)
  · refine br_f (by decide) (br_f (by decide) (br_f (by decide) (br_f (by decide) (br_f (by decide) ⟨by decide, pk_le (c / 36) 0 (fun h => ?_) (fun h => ?_) e3⟩))))
    · exact h0 (by show ge_nb c 4 = _; rw [ge_4, if_pos (by omega)])
    · have e4 : nI c - 36 = nI (c - 36) := pk_sub (b := 36) (by omega)
      rw [e4]; exact h1 (c - 36) (by show ge_nb c 4 = _; rw [ge_4, if_neg (by omega)]) (by omega)
def bx_is (l h : Nat) : Bool := decide (l % 6 ≤ h % 6) && (decide (l / 6 % 6 ≤ h / 6 % 6) && decide (l / 36 ≤ h / 36))
def bx_ok (x y : Int32) : Prop := ∃ l h, l < 216 ∧ h < 216 ∧ x = nI l ∧ y = nI h ∧ bx_is l h = true
theorem bx_inj {a b : Nat} (ha : a < 216) (hb : b < 216) (h : nI a = nI b) : a = b := (nI_eq (by omega) (by omega)).mp h
theorem bx_nok {l h : Nat} (hl : l < 216) (hh : h < 216) (e : bx_is l h = false) : ¬ bx_ok (nI l) (nI h) := by
  rintro ⟨l', h', hl', hh', e1, e2, e3⟩
  rw [← bx_inj hl hl' e1, ← bx_inj hh hh' e2, e] at e3
  exact nomatch e3
theorem xb_isBox {post : Int32 → Prop} {x y : Int32} (h0 : ¬ bx_ok x y → post 0) (h1 : bx_ok x y → post 1) : wpX_isBox post x y := by
  refine xb_isCell (fun h => br_t rfl (h0 (fun z => h (by obtain ⟨l, _, hl, _, e, _⟩ := z; exact ⟨l, hl, e⟩)))) (fun h => br_f (by decide) (xb_isCell (fun h' => br_t rfl (h0 (fun z => h' (by obtain ⟨_, l, _, hl, _, e, _⟩ := z; exact ⟨l, hl, e⟩)))) (fun h' => br_f (by decide) ?_)))
  obtain ⟨l, hl, rfl⟩ := h
  obtain ⟨r, hr, rfl⟩ := h'
  refine ⟨by decide, by decide, pk_lt (r % 6) (l % 6) (fun h => ?_) (fun h => ⟨by decide, by decide, by decide, by decide, pk_lt (r / 6 % 6) (l / 6 % 6) (fun h2 => ?_) (fun h2 => ⟨by decide, by decide, pk_lt (r / 36) (l / 36) (fun h3 => ?_) (fun h3 => ?_) (bx_d36 hr) (bx_d36 hl)⟩) (bx_q hr) (bx_q hl)⟩) (bx_r hr) (bx_r hl)⟩
  · exact h0 (bx_nok hl hr (by simp only [bx_is, Bool.and_eq_false_iff, decide_eq_false_iff_not]; omega))
  · exact h0 (bx_nok hl hr (by simp only [bx_is, Bool.and_eq_false_iff, decide_eq_false_iff_not]; omega))
  · exact h0 (bx_nok hl hr (by simp only [bx_is, Bool.and_eq_false_iff, decide_eq_false_iff_not]; omega))
  · exact h1 ⟨l, r, hl, hr, rfl, rfl, by simp only [bx_is, Bool.and_eq_true, decide_eq_true_eq]; omega⟩
theorem yb_badBox {post : Int32 → Prop} {x y : Int32} (h0 : ¬ bx_ok x y → post 1) (h1 : bx_ok x y → post 0) : wpY_badBox post (b1, b2, b3, b4, b5, b6) x y := by
  unfold wpY_badBox
  dsimp only
  refine yb_bad (fun h => br_f (by decide) (h0 (fun z => h (by obtain ⟨l, _, hl, _, e, _⟩ := z; exact ⟨l, hl, e⟩)))) (fun h => br_t rfl (yb_bad (fun h' => br_f (by decide) (h0 (fun z => h' (by obtain ⟨_, l, _, hl, _, e, _⟩ := z; exact ⟨l, hl, e⟩)))) (fun h' => br_t rfl ?_)))
  obtain ⟨l, hl, rfl⟩ := h
  obtain ⟨r, hr, rfl⟩ := h'
  refine ⟨by decide, by decide, pk_lt (r % 6) (l % 6) (fun h => ?_) (fun h => ⟨by decide, by decide, by decide, by decide, pk_lt (r / 6 % 6) (l / 6 % 6) (fun h2 => ?_) (fun h2 => ⟨by decide, by decide, pk_le (l / 36) (r / 36) (fun h3 => ?_) (fun h3 => ?_) (bx_d36 hl) (bx_d36 hr)⟩) (bx_q hr) (bx_q hl)⟩) (bx_r hr) (bx_r hl)⟩
  · exact h0 (bx_nok hl hr (by simp only [bx_is, Bool.and_eq_false_iff, decide_eq_false_iff_not]; omega))
  · exact h0 (bx_nok hl hr (by simp only [bx_is, Bool.and_eq_false_iff, decide_eq_false_iff_not]; omega))
  · exact h1 ⟨l, r, hl, hr, rfl, rfl, by simp only [bx_is, Bool.and_eq_true, decide_eq_true_eq]; omega⟩
  · exact h0 (bx_nok hl hr (by simp only [bx_is, Bool.and_eq_false_iff, decide_eq_false_iff_not]; omega))
end YS
def bx_z (c l h : Nat) : Bool := decide (l / 36 ≤ c / 36) && decide (c / 36 ≤ h / 36)
def bx_y (c l h : Nat) : Bool := decide (l / 6 % 6 ≤ c / 6 % 6) && decide (c / 6 % 6 ≤ h / 6 % 6)
def bx_x (c l h : Nat) : Bool := decide (l % 6 ≤ c % 6) && decide (c % 6 ≤ h % 6)
def bx_in (c l h : Nat) : Bool := bx_x c l h && bx_y c l h && bx_z c l h
theorem bx_p {post : Int32 → Prop} {b : Bool} (v : Bool) (P : post (ar_b b)) (h : b = v) : post (ar_b v) := h ▸ P
section BX
variable {post : Int32 → Prop} {c l r : Nat} {b1 b2 b3 b4 b5 b6 : Nat → Int32}
theorem xb_67 (hc : c < 216) (hl : l < 216) (hr : r < 216) {x z : Bool} (P : post (ar_b (x && z && bx_z c l r))) : wX_inBox_67 post (nI c) (nI l) (nI r) (ar_b x) (ar_b z) := by
  refine ar_brb (fun e => ?_) (fun e => ar_brb (fun e2 => ?_) (fun e2 => ⟨by decide, by decide, pk_lt (c / 36) (l / 36) (fun h => ?_) (fun h => ⟨by decide, by decide, pk_lt (r / 36) (c / 36) (fun h2 => ?_) (fun h2 => ?_) (bx_d36 hr) (bx_d36 hc)⟩) (bx_d36 hc) (bx_d36 hl)⟩))
  · subst e; exact P
  · subst e e2; exact P
  · subst e e2; exact bx_p false P (by simp only [bx_z, Bool.true_and, Bool.and_eq_false_iff, decide_eq_false_iff_not]; omega)
  · subst e e2; exact bx_p false P (by simp only [bx_z, Bool.true_and, Bool.and_eq_false_iff, decide_eq_false_iff_not]; omega)
  · subst e e2; exact bx_p true P (by simp only [bx_z, Bool.true_and, Bool.and_eq_true, decide_eq_true_eq]; omega)
theorem xb_27 (hc : c < 216) (hl : l < 216) (hr : r < 216) {x : Bool} (P : post (ar_b (x && bx_y c l r && bx_z c l r))) : wX_inBox_27 post (nI c) (nI l) (nI r) (ar_b x) := by
  refine ⟨by decide, by decide, by decide, by decide, pk_lt (c / 6 % 6) (l / 6 % 6) (fun h => ?_) (fun h => ⟨by decide, by decide, by decide, by decide, pk_lt (r / 6 % 6) (c / 6 % 6) (fun h2 => ?_) (fun h2 => ?_) (bx_q hr) (bx_q hc)⟩) (bx_q hc) (bx_q hl)⟩
  · have e : bx_y c l r = false := by simp only [bx_y, Bool.and_eq_false_iff, decide_eq_false_iff_not]; omega
    rw [e] at P
    exact xb_67 (z := false) hc hl hr P
  · have e : bx_y c l r = false := by simp only [bx_y, Bool.and_eq_false_iff, decide_eq_false_iff_not]; omega
    rw [e] at P
    exact xb_67 (z := false) hc hl hr P
  · have e : bx_y c l r = true := by simp only [bx_y, Bool.and_eq_true, decide_eq_true_eq]; omega
    rw [e] at P
    exact xb_67 (z := true) hc hl hr P
theorem xb_inBox (hc : c < 216) (hl : l < 216) (hr : r < 216) (P : post (ar_b (bx_in c l r))) : wpX_inBox post (nI c) (nI l) (nI r) := by
  unfold bx_in at P
  refine ⟨by decide, by decide, pk_lt (c % 6) (l % 6) (fun h => ?_) (fun h => ⟨by decide, by decide, pk_lt (r % 6) (c % 6) (fun h2 => ?_) (fun h2 => ?_) (bx_r hr) (bx_r hc)⟩) (bx_r hc) (bx_r hl)⟩
  · have e : bx_x c l r = false := by simp only [bx_x, Bool.and_eq_false_iff, decide_eq_false_iff_not]; omega
    rw [e] at P
    exact xb_27 (x := false) hc hl hr P
  · have e : bx_x c l r = false := by simp only [bx_x, Bool.and_eq_false_iff, decide_eq_false_iff_not]; omega
    rw [e] at P
    exact xb_27 (x := false) hc hl hr P
  · have e : bx_x c l r = true := by simp only [bx_x, Bool.and_eq_true, decide_eq_true_eq]; omega
    rw [e] at P
    exact xb_27 (x := true) hc hl hr P
theorem yb_68 (hc : c < 216) (hl : l < 216) (hr : r < 216) {x z : Bool} (P : post (ar_b (x && z && bx_z c l r))) : wY_inBox_68 post (nI c) (nI l) (nI r) (ar_b x) (ar_b z) b1 b2 b3 b4 b5 b6 := by
  refine ar_brb (fun e => ?_) (fun e => ar_brb (fun e2 => ?_) (fun e2 => ⟨by decide, by decide, pk_lt (c / 36) (l / 36) (fun h => ?_) (fun h => ⟨by decide, by decide, pk_lt (r / 36) (c / 36) (fun h2 => ?_) (fun h2 => ?_) (bx_d36 hr) (bx_d36 hc)⟩) (bx_d36 hc) (bx_d36 hl)⟩))
  · subst e; exact P
  · subst e e2; exact P
  · subst e e2; exact bx_p false P (by simp only [bx_z, Bool.true_and, Bool.and_eq_false_iff, decide_eq_false_iff_not]; omega)
  · subst e e2; exact bx_p false P (by simp only [bx_z, Bool.true_and, Bool.and_eq_false_iff, decide_eq_false_iff_not]; omega)
  · subst e e2; exact bx_p true P (by simp only [bx_z, Bool.true_and, Bool.and_eq_true, decide_eq_true_eq]; omega)
theorem yb_27 (hc : c < 216) (hl : l < 216) (hr : r < 216) {x : Bool} (P : post (ar_b (x && bx_y c l r && bx_z c l r))) : wY_inBox_27 post (nI c) (nI l) (nI r) (ar_b x) b1 b2 b3 b4 b5 b6 := by
  refine ⟨by decide, by decide, by decide, by decide, pk_lt (c / 6 % 6) (l / 6 % 6) (fun h => ?_) (fun h => ⟨by decide, by decide, by decide, by decide, pk_lt (r / 6 % 6) (c / 6 % 6) (fun h2 => ?_) (fun h2 => ?_) (bx_q hr) (bx_q hc)⟩) (bx_q hc) (bx_q hl)⟩
  · have e : bx_y c l r = false := by simp only [bx_y, Bool.and_eq_false_iff, decide_eq_false_iff_not]; omega
    rw [e] at P
    exact yb_68 (z := false) hc hl hr P
  · have e : bx_y c l r = false := by simp only [bx_y, Bool.and_eq_false_iff, decide_eq_false_iff_not]; omega
    rw [e] at P
    exact yb_68 (z := false) hc hl hr P
  · have e : bx_y c l r = true := by simp only [bx_y, Bool.and_eq_true, decide_eq_true_eq]; omega
    rw [e] at P
    exact yb_68 (z := true) hc hl hr P
theorem yb_inBox (hc : c < 216) (hl : l < 216) (hr : r < 216) (P : post (ar_b (bx_in c l r))) : wpY_inBox post (b1, b2, b3, b4, b5, b6) (nI c) (nI l) (nI r) := by
  unfold bx_in at P
  refine ⟨by decide, by decide, pk_lt (c % 6) (l % 6) (fun h => ?_) (fun h => ⟨by decide, by decide, pk_lt (r % 6) (c % 6) (fun h2 => ?_) (fun h2 => ?_) (bx_r hr) (bx_r hc)⟩) (bx_r hc) (bx_r hl)⟩
  · have e : bx_x c l r = false := by simp only [bx_x, Bool.and_eq_false_iff, decide_eq_false_iff_not]; omega
    rw [e] at P
    exact yb_27 (x := false) hc hl hr P
  · have e : bx_x c l r = false := by simp only [bx_x, Bool.and_eq_false_iff, decide_eq_false_iff_not]; omega
    rw [e] at P
    exact yb_27 (x := false) hc hl hr P
  · have e : bx_x c l r = true := by simp only [bx_x, Bool.and_eq_true, decide_eq_true_eq]; omega
    rw [e] at P
    exact yb_27 (x := true) hc hl hr P
end BX
/-- the brighter of two -/
def li_m (a b : Nat) : Nat := if a ≤ b then b else a
section LI
variable {post : Int32 → Prop} {w : Nat} {so se ri sn : Nat → Bool} {la lv st lo ke lg sg lb yk : Nat → Nat}
theorem xl_light {c : Nat} (hc : c < 216) (h1 : lv c ≤ 12) (h2 : lv (216 + c) ≤ 12) (P : post (nI (li_m (lv c) (lv (216 + c))))) : wpX_light post (nI w, ar_B so, ar_N la, ar_B se, ar_N lv, ar_B ri, ar_N st, ar_N lo, ar_N ke, ar_B sn) (nI c) := by
  have e1 : (216 : Int32) + nI c = nI (216 + c) := nI_add 216 c
  have cc : (nI c).toNatClampNeg = c := nI_clamp (by omega)
  have cd : (nI (216 + c)).toNatClampNeg = 216 + c := nI_clamp (by omega)
  unfold wpX_light
  dsimp only
  rw [e1]
  refine ⟨vp_in_nI (by omega) (by decide), nm_r (ar_at cd) ⟨vp_in_nI (by omega) (by decide), pk_le (lv c) (lv (216 + c)) (fun h => ?_) (fun h => ⟨vp_in_nI (by omega) (by decide), ?_⟩) (ar_at cc)⟩⟩
  · unfold li_m at P; rw [if_pos h] at P; exact P
  · unfold li_m at P; rw [if_neg (by omega)] at P; rw [ar_at cc]; exact P
theorem yl_light {c : Nat} (hc : c < 216) (h1 : lg c ≤ 12) (h2 : sg c ≤ 12) (P : post (nI (li_m (lg c) (sg c)))) : wpY_light post (ar_B so, ar_N la, ar_N lg, ar_N sg, ar_N lb, ar_N yk) (nI c) := by
  have cc : (nI c).toNatClampNeg = c := nI_clamp (by omega)
  have ii : vp_in (nI c) 216 := vp_in_nI hc (by decide)
  refine ⟨ii, ii, pk_le (lg c) (sg c) (fun h => ⟨ii, ?_⟩) (fun h => ⟨ii, ?_⟩) (ar_at cc) (ar_at cc)⟩
  · unfold li_m at P; rw [if_pos h] at P; rw [ar_at cc]; exact P
  · unfold li_m at P; rw [if_neg (by omega)] at P; rw [ar_at cc]; exact P
theorem ys_2 (hSe : ∀ x, x < 216 → lf_Se so se x) : ∀ k d, 216 ≤ d + k → d < 252 → ∀ n, k < n → post (ar_b (decide (216 ≤ d) || se d)) → wY_sees_2 post (ar_B so) (ar_N la) (ar_N lg) (ar_N sg) (ar_N lb) (ar_N yk) n (nI d) := by
  intro k
  induction k with
  | zero =>
    intro d hd hd2 n hn P
    obtain ⟨n, rfl⟩ : ∃ m, n = m + 1 := ⟨n - 1, by omega⟩
    rw [decide_eq_true (by omega : 216 ≤ d), Bool.true_or] at P
    exact br_t (nI_le (a := 216) (b := d) (by omega) (by omega)) P
  | succ k ih =>
    intro d hd hd2 n hn P
    obtain ⟨n, rfl⟩ : ∃ m, n = m + 1 := ⟨n - 1, by omega⟩
    refine pk_le 216 d (fun h => ?_) (fun h => ⟨vp_in_nI h (by decide), ar_br d (nI_clamp (by omega)) (fun hs => ?_) (fun hs => ?_)⟩)
    · rw [decide_eq_true h, Bool.true_or] at P; exact P
    · have e := hSe d h
      unfold lf_Se at e
      rw [hs, Bool.not_false, Bool.true_and] at e
      rw [decide_eq_false (by omega), Bool.false_or, e] at P
      exact nm_r (nI_add d 36) (ih (d + 36) (by omega) (by omega) n (by omega) P)
    · have e := hSe d h
      unfold lf_Se at e
      rw [hs, Bool.not_true, Bool.false_and] at e
      rw [decide_eq_false (by omega), Bool.false_or, e] at P
      exact P
theorem ys_sees {c : Nat} (hSe : ∀ x, x < 216 → lf_Se so se x) (hc : c < 216) (P : post (ar_b (se c))) : wpY_sees post (ar_B so, ar_N la, ar_N lg, ar_N sg, ar_N lb, ar_N yk) (nI c) := by
  refine ⟨217, ys_2 hSe 216 c (by omega) (by omega) 217 (by omega) ?_⟩
  rw [decide_eq_false (by omega), Bool.false_or]; exact P
end LI
end
section
/-! one layer of light, for the reference: pure -/
def ly_F (s : Nat → Nat) (so : Nat → Bool) (F : Nat → Nat) : Prop := (∀ c, c < 216 → F c ≤ 12) ∧ (∀ c, c < 216 → F c = 0 ∨ F c ≤ s c ∨ (so c = false ∧ ∃ d, ge_adj c d ∧ F c + 1 ≤ F d)) ∧ (∀ c, c < 216 → s c ≤ F c) ∧ (∀ c, c < 216 → so c = false → ∀ d, ge_adj c d → F d ≤ F c + 1)
def ly_P (s : Nat → Nat) (so : Nat → Bool) (F G0 : Nat → Nat) (k : Nat) (G : Nat → Nat) : Prop := (∀ c, c < 216 → s c ≤ G c ∧ G c ≤ F c ∧ G0 c ≤ G c) ∧ (∀ c, c < 216 → so c = false → ∀ t, t < 6 → 6 * c + t < k → ∀ d, ge_nb c (ge_fl t) = some d → G0 d ≤ G c + 1)
def ly_Q (s : Nat → Nat) (F : Nat → Nat) (k : Nat) (G : Nat → Nat) : Prop := (∀ c, c < 216 → s c ≤ G c ∧ G c ≤ F c) ∧ (∀ c, c < 216 → 12 ≤ F c + k → F c ≤ G c)
section LY
variable {s : Nat → Nat} {so : Nat → Bool} {F G0 G : Nat → Nat}
theorem ly_lo {la : Nat → Nat} {se : Nat → Bool} {lv : Nat → Nat} (h : lf_F (lf_src la se) (lf_sol so) lv) : ly_F la so lv := by
  obtain ⟨h1, h2, h3, h4⟩ := h
  refine ⟨fun c hc => h1 c (by omega), fun c hc => ?_, fun c hc => ?_, fun c hc hs d hd => ?_⟩
  · rcases h2 c (by omega) with h | h | ⟨h, q, hq, hl⟩
    · exact Or.inl h
    · rw [lf_s1 hc] at h; exact Or.inr (Or.inl h)
    · rw [lf_o1 hc] at h; exact Or.inr (Or.inr ⟨h, q, hq, hl⟩)
  · have := h3 c (by omega)
    rw [lf_s1 hc] at this; exact this
  · have := ge_lt2 hd hc
    exact h4 d (by omega) c (ge_sym hd) (by rw [lf_o1 hc]; exact hs)
theorem ly_hi {la : Nat → Nat} {se : Nat → Bool} {lv : Nat → Nat} (h : lf_F (lf_src la se) (lf_sol so) lv) : ly_F (fun c => if se c = true then 8 else 0) so (fun c => lv (216 + c)) := by
  obtain ⟨h1, h2, h3, h4⟩ := h
  refine ⟨fun c hc => h1 (216 + c) (by omega), fun c hc => ?_, fun c hc => ?_, fun c hc hs d hd => ?_⟩
  · rcases h2 (216 + c) (by omega) with h | h | ⟨h, q, hq, hl⟩
    · exact Or.inl h
    · rw [lf_s2] at h; exact Or.inr (Or.inl h)
    · rw [lf_o2 hc] at h
      have hg := ge_ge2 hq (Nat.le_add_right 216 c)
      obtain ⟨d, rfl⟩ : ∃ d, q = 216 + d := ⟨q - 216, by omega⟩
      exact Or.inr (Or.inr ⟨h, d, ge_dn hq, hl⟩)
  · have := h3 (216 + c) (by omega)
    rw [lf_s2] at this; exact this
  · have := ge_lt2 hd hc
    exact h4 (216 + d) (by omega) (216 + c) (ge_up (ge_sym hd)) (by rw [lf_o2 hc]; exact hs)
theorem ly_P0 (h : ∀ c, c < 216 → s c ≤ G c ∧ G c ≤ F c) : ly_P s so F G 0 G :=
  ⟨fun c hc => ⟨(h c hc).1, (h c hc).2, Nat.le_refl _⟩, fun _ _ _ t _ h => absurd h (Nat.not_lt_zero _)⟩
theorem ly_keep {c t : Nat} (ht : t < 6) (hk : ∀ d, so c = false → ge_nb c (ge_fl t) = some d → d < 216 ∧ G d ≤ G c + 1) (h : ly_P s so F G0 (6 * c + t) G) : ly_P s so F G0 (6 * c + t + 1) G := by
  refine ⟨h.1, fun c' hc' hs t' ht' hlt d hd => ?_⟩
  by_cases e : 6 * c' + t' = 6 * c + t
  · obtain rfl : c' = c := by omega
    obtain rfl : t' = t := by omega
    have h1 := hk d hs hd
    have h2 := (h.1 d h1.1).2.2
    omega
  · exact h.2 c' hc' hs t' ht' (by omega) d hd
theorem ly_set {c t d : Nat} (hF : ly_F s so F) (hc : c < 216) (ht : t < 6) (hs : so c = false) (hd : ge_nb c (ge_fl t) = some d) (hlt : G c + 1 < G d) (h : ly_P s so F G0 (6 * c + t) G) : ly_P s so F G0 (6 * c + t + 1) (ar_u G c (G d - 1)) := by
  have had : ge_adj c d := ⟨_, ge_fl6 ht, hd⟩
  have hd2 := ge_lt2 had hc
  have hFd := hF.2.2.2 c hc hs d had
  have hdd := h.1 d hd2
  refine ⟨fun c' hc' => ?_, fun c' hc' hs' t' ht' hlt' d' hd' => ?_⟩
  · by_cases e : c' = c
    · subst e
      have := h.1 c' hc'
      rw [ar_us]; omega
    · rw [ar_un e]; exact h.1 c' hc'
  · by_cases e : c' = c
    · subst e
      rw [ar_us]
      by_cases e2 : t' = t
      · subst e2
        rw [hd] at hd'
        cases hd'
        omega
      · have := h.2 c' hc' hs' t' ht' (by omega) d' hd'
        omega
    · rw [ar_un e]
      exact h.2 c' hc' hs' t' ht' (by omega) d' hd'
theorem ly_full (h : ly_P s so F G0 1296 G) {c d : Nat} (hc : c < 216) (hs : so c = false) (hd : ge_adj c d) : G0 d ≤ G c + 1 := by
  obtain ⟨t, ht, e⟩ := hd
  exact h.2 c hc hs (ge_fl t) (ge_fl6 ht) (by have := ge_fl6 ht; omega) d (by rw [ge_flfl]; exact e)
theorem ly_next {k : Nat} (hF : ly_F s so F) (hQ : ly_Q s F k G0) (h : ly_P s so F G0 1296 G) : ly_Q s F (k + 1) G := by
  refine ⟨fun c hc => ⟨(h.1 c hc).1, (h.1 c hc).2.1⟩, fun c hc h12 => ?_⟩
  have h1 := h.1 c hc
  rcases hF.2.1 c hc with h | h | ⟨hs, d, hd, hl⟩
  · omega
  · omega
  · have hd2 := ge_lt2 hd hc
    have h2 := hQ.2 d hd2 (by omega)
    have h3 := ly_full h hc hs hd
    omega
theorem ly_stop (hF : ly_F s so F) (h : ly_P s so F G 1296 G) : ∀ c, c < 216 → F c ≤ G c := by
  have hh : ∀ m c, c < 216 → 12 ≤ F c + m → F c ≤ G c := by
    intro m
    induction m with
    | zero =>
      intro c hc h12
      have h1 := h.1 c hc
      rcases hF.2.1 c hc with h | h | ⟨hs, d, hd, hl⟩
      · omega
      · omega
      · have := hF.1 d (ge_lt2 hd hc)
        omega
    | succ m ih =>
      intro c hc h12
      have h1 := h.1 c hc
      rcases hF.2.1 c hc with h | h | ⟨hs, d, hd, hl⟩
      · omega
      · omega
      · have h2 := ih d (ge_lt2 hd hc) (by omega)
        have h3 := ly_full h hc hs hd
        omega
  exact fun c hc => hh 12 c hc (by omega)
end LY
end
section
/-! the reference's flow and shine -/
theorem yw_le {a b : Nat} (ha : a ≤ 12) (hb : b ≤ 12) : (nI a - 1 ≤ nI b) ↔ a ≤ b + 1 := by
  have e : (nI a - 1).toInt = (a : Int) - 1 := pk_sub_toInt (b := 1) (by omega) (by omega)
  rw [Int32.le_iff_toInt_le, e, nI_toInt (by omega)]
  omega
section YF
variable {so se : Nat → Bool} {la lb yk : Nat → Nat} {F G lg0 sg0 ss : Nat → Nat}
theorem yf_79 {post : Int32 → SY → Prop} {J : Int32 → Int32 → (Nat → Int32) → (Nat → Int32) → (Nat → Int32) → (Nat → Int32) → (Nat → Int32) → (Nat → Int32) → Prop} {x1 : Int32} {k c d : Nat} {lg sg : Nat → Nat} (hc : c < 216) (hd : d < 216) (h1 : sg c ≤ 12) (h2 : sg d ≤ 12)
    (K1 : sg d ≤ sg c + 1 → J x1 (nI (k + 1)) (ar_B so) (ar_N la) (ar_N lg) (ar_N sg) (ar_N lb) (ar_N yk)) (K2 : sg c + 1 < sg d → J 1 (nI (k + 1)) (ar_B so) (ar_N la) (ar_N lg) (ar_N (ar_u sg c (sg d - 1))) (ar_N lb) (ar_N yk)) : wY_flow_79 post J x1 (nI k) (nI c) (nI d) (ar_B so) (ar_N la) (ar_N lg) (ar_N sg) (ar_N lb) (ar_N yk) := by
  have cc : (nI c).toNatClampNeg = c := nI_clamp (by omega)
  have cd : (nI d).toNatClampNeg = d := nI_clamp (by omega)
  have ic : vp_in (nI c) 216 := vp_in_nI hc (by decide)
  have id' : vp_in (nI d) 216 := vp_in_nI hd (by decide)
  unfold wY_flow_79
  rw [ar_at cc, ar_at cd, yw_le h2 h1]
  refine ⟨id', ic, br_c (fun h => nm_r (nI_1 k) (K1 h)) (fun h => ⟨id', ic, nm_r (ar_wN (x := sg d - 1) cc ?_) (nm_r (nI_1 k) (K2 (by omega)))⟩)⟩
  exact pk_sub (b := 1) (by omega)
theorem yf_4 {post : Int32 → SY → Prop} (hF : ly_F la so F) (hG : ly_F ss so G)
    (K : ∀ mo lg sg, ly_P la so F lg0 1296 lg → ly_P ss so G sg0 1296 sg → (mo = false → lg = lg0 ∧ sg = sg0) → post (ar_b mo) (ar_B so, ar_N la, ar_N lg, ar_N sg, ar_N lb, ar_N yk)) :
    ∀ j k, k + j = 1296 → ∀ n, j < n → ∀ mo lg sg, ly_P la so F lg0 k lg → ly_P ss so G sg0 k sg → (mo = false → lg = lg0 ∧ sg = sg0) → wY_flow_4 post n (ar_b mo) (nI k) (ar_B so) (ar_N la) (ar_N lg) (ar_N sg) (ar_N lb) (ar_N yk) := by
  intro j
  induction j with
  | zero =>
    intro k hk n hn mo lg sg hp hq hm
    obtain ⟨n, rfl⟩ : ∃ m, n = m + 1 := ⟨n - 1, by omega⟩
    obtain rfl : k = 1296 := by omega
    refine br_t (nI_le (a := 1296) (b := 1296) (by omega) (by omega)) ⟨?_, K mo lg sg hp hq hm⟩
    cases mo <;> rfl
  | succ j ih =>
    intro k hk n hn mo lg sg hp hq hm
    obtain ⟨n, rfl⟩ : ∃ m, n = m + 1 := ⟨n - 1, by omega⟩
    obtain ⟨c, t, ht, rfl⟩ : ∃ c t, t < 6 ∧ k = 6 * c + t := ⟨k / 6, k % 6, by omega, by omega⟩
    have hc : c < 216 := by omega
    have ed : nI (6 * c + t) / 6 = nI c := by
      have := pk_div (a := 6 * c + t) (d := 6) (by omega) (by decide) (by decide)
      rw [show (6 * c + t) / 6 = c by omega] at this; exact this
    have er : nI (6 * c + t) - nI (6 * c + t) / 6 * 6 = nI t := by
      have := pk_rem (a := 6 * c + t) (d := 6) (by omega) (by decide) (by decide)
      rw [show (6 * c + t) % 6 = t by omega] at this; exact this
    have e1 : nI (6 * c + t) + 1 = nI (6 * c + t + 1) := nI_1 _
    have cc : (nI c).toNatClampNeg = c := nI_clamp (by omega)
    have ic : vp_in (nI c) 216 := vp_in_nI hc (by decide)
    refine br_f (nI_ge (a := 6 * c + t) (b := 1296) (by omega) (by decide)) ⟨by decide, nm_r ed ⟨by decide, yn_bs c t hc ht rfl er (fun hN => ?_) (fun d hd hd2 => ?_)⟩⟩
    · have hk0 : ∀ g : Nat → Nat, ∀ d, so c = false → ge_nb c (ge_fl t) = some d → d < 216 ∧ g d ≤ g c + 1 := fun g d _ h => by rw [hN] at h; exact nomatch h
      exact br_t (by decide) (nm_r e1 (ih (6 * c + t + 1) (by omega) n (by omega) mo lg sg (ly_keep ht (hk0 lg) hp) (ly_keep ht (hk0 sg) hq) hm))
    · have cd : (nI d).toNatClampNeg = d := nI_clamp (by omega)
      have id' : vp_in (nI d) 216 := vp_in_nI hd2 (by decide)
      refine br_f (nI_pos (by omega)) ⟨ic, ar_br c cc (fun hs => ?_) (fun hs => ?_)⟩
      · have b1 := hp.1 c hc
        have b2 := hp.1 d hd2
        have b3 := hq.1 c hc
        have b4 := hq.1 d hd2
        have f1 := hF.1 c hc
        have f2 := hF.1 d hd2
        have f3 := hG.1 c hc
        have f4 := hG.1 d hd2
        rw [ar_at cc, ar_at cd, yw_le (by omega) (by omega)]
        refine ⟨id', ic, br_c (fun h => ?_) (fun h => ⟨id', ic, nm_r (ar_wN (x := lg d - 1) cc (pk_sub (b := 1) (by omega))) ?_⟩)⟩
        · have hp' := ly_keep ht (fun d' _ h' => by rw [hd] at h'; cases h'; exact ⟨hd2, h⟩) hp
          refine yf_79 hc hd2 (by omega) (by omega) (fun h2 => ?_) (fun h2 => ?_)
          · exact ih (6 * c + t + 1) (by omega) n (by omega) mo lg sg hp' (ly_keep ht (fun d' _ h' => by rw [hd] at h'; cases h'; exact ⟨hd2, h2⟩) hq) hm
          · exact ih (6 * c + t + 1) (by omega) n (by omega) true lg _ hp' (ly_set hG hc ht hs hd h2 hq) (fun z => nomatch z)
        · have hp' := ly_set hF hc ht hs hd (by omega) hp
          refine yf_79 hc hd2 (by omega) (by omega) (fun h2 => ?_) (fun h2 => ?_)
          · exact ih (6 * c + t + 1) (by omega) n (by omega) true _ sg hp' (ly_keep ht (fun d' _ h' => by rw [hd] at h'; cases h'; exact ⟨hd2, h2⟩) hq) (fun z => nomatch z)
          · exact ih (6 * c + t + 1) (by omega) n (by omega) true _ _ hp' (ly_set hG hc ht hs hd h2 hq) (fun z => nomatch z)
      · have hk0 : ∀ g : Nat → Nat, ∀ d, so c = false → ge_nb c (ge_fl t) = some d → d < 216 ∧ g d ≤ g c + 1 := fun g d h _ => by rw [hs] at h; exact nomatch h
        exact nm_r e1 (ih (6 * c + t + 1) (by omega) n (by omega) mo lg sg (ly_keep ht (hk0 lg) hp) (ly_keep ht (hk0 sg) hq) hm)
theorem yf_flow {post : Int32 → SY → Prop} (hF : ly_F la so F) (hG : ly_F ss so G) (h1 : ∀ c, c < 216 → la c ≤ lg0 c ∧ lg0 c ≤ F c) (h2 : ∀ c, c < 216 → ss c ≤ sg0 c ∧ sg0 c ≤ G c)
    (K : ∀ mo lg sg, ly_P la so F lg0 1296 lg → ly_P ss so G sg0 1296 sg → (mo = false → lg = lg0 ∧ sg = sg0) → post (ar_b mo) (ar_B so, ar_N la, ar_N lg, ar_N sg, ar_N lb, ar_N yk)) : wpY_flow post (ar_B so, ar_N la, ar_N lg0, ar_N sg0, ar_N lb, ar_N yk) :=
  ⟨1297, yf_4 hF hG K 1296 0 rfl 1297 (by decide) false lg0 sg0 (ly_P0 h1) (ly_P0 h2) (fun _ => ⟨rfl, rfl⟩)⟩
theorem yf_51 {post : SY → Prop} (hF : ly_F la so F) (hG : ly_F ss so G)
    (K : ∀ lg sg, (∀ c, c < 216 → lg c = F c) → (∀ c, c < 216 → sg c = G c) → post (ar_B so, ar_N la, ar_N lg, ar_N sg, ar_N lb, ar_N yk)) :
    ∀ j k, k + j = 216 → ∀ n, j < n → ∀ mo lg sg, ly_Q la F k lg → ly_Q ss G k sg → (mo = false → (∀ c, c < 216 → F c ≤ lg c) ∧ (∀ c, c < 216 → G c ≤ sg c)) → wY_shine_51 post n (ar_b mo) (nI k) (ar_B so) (ar_N la) (ar_N lg) (ar_N sg) (ar_N lb) (ar_N yk) := by
  intro j
  induction j with
  | zero =>
    intro k hk n hn mo lg sg hp hq hm
    obtain ⟨n, rfl⟩ : ∃ m, n = m + 1 := ⟨n - 1, by omega⟩
    refine br_t (nI_le (a := 216) (b := k) (by omega) (by omega)) (K lg sg (fun c hc => ?_) (fun c hc => ?_))
    · exact Nat.le_antisymm (hp.1 c hc).2 (hp.2 c hc (by omega))
    · exact Nat.le_antisymm (hq.1 c hc).2 (hq.2 c hc (by omega))
  | succ j ih =>
    intro k hk n hn mo lg sg hp hq hm
    obtain ⟨n, rfl⟩ : ∃ m, n = m + 1 := ⟨n - 1, by omega⟩
    refine br_f (nI_ge (a := k) (b := 216) (by omega) (by decide)) (ar_brb (fun e => ?_) (fun e => ?_))
    · exact K lg sg (fun c hc => Nat.le_antisymm (hp.1 c hc).2 ((hm e).1 c hc)) (fun c hc => Nat.le_antisymm (hq.1 c hc).2 ((hm e).2 c hc))
    · refine yf_flow hF hG hp.1 hq.1 (fun mo' lg' sg' hp' hq' hm' => ?_)
      refine nm_r (nI_1 k) (ih (k + 1) (by omega) n (by omega) mo' lg' sg' (ly_next hF hp hp') (ly_next hG hq hq') (fun z => ?_))
      obtain ⟨rfl, rfl⟩ := hm' z
      exact ⟨ly_stop hF hp', ly_stop hG hq'⟩
theorem yf_2 {post : SY → Prop} {lv : Nat → Nat} (I : rl_I so la se lv)
    (K : ∀ lg sg, (∀ c, c < 216 → lg c = lv c) → (∀ c, c < 216 → sg c = lv (216 + c)) → post (ar_B so, ar_N la, ar_N lg, ar_N sg, ar_N lb, ar_N yk)) :
    ∀ j i, i + j = 216 → ∀ n, j < n → ∀ lg sg, (∀ c, c < i → lg c = la c) → (∀ c, c < i → sg c = if se c = true then 8 else 0) → wY_shine_2 post n (nI i) (ar_B so) (ar_N la) (ar_N lg) (ar_N sg) (ar_N lb) (ar_N yk) := by
  have hF := ly_lo I.2.2
  have hG := ly_hi I.2.2
  intro j
  induction j with
  | zero =>
    intro i hi n hn lg sg h1 h2
    obtain ⟨n, rfl⟩ : ∃ m, n = m + 1 := ⟨n - 1, by omega⟩
    obtain rfl : i = 216 := by omega
    refine br_t (nI_le (a := 216) (b := 216) (by omega) (by omega)) ⟨217, yf_51 hF hG K 216 0 rfl 217 (by decide) true lg sg ⟨fun c hc => ?_, fun c hc h12 => ?_⟩ ⟨fun c hc => ?_, fun c hc h12 => ?_⟩ (fun z => nomatch z)⟩
    · rw [h1 c hc]; exact ⟨Nat.le_refl _, hF.2.2.1 c hc⟩
    · rw [h1 c hc]
      rcases hF.2.1 c hc with h | h | ⟨hs, d, hd, hl⟩
      · omega
      · exact h
      · have := hF.1 d (ge_lt2 hd hc)
        omega
    · rw [h2 c hc]; exact ⟨Nat.le_refl _, hG.2.2.1 c hc⟩
    · rw [h2 c hc]
      rcases hG.2.1 c hc with h | h | ⟨hs, d, hd, hl⟩
      · rw [h]; exact Nat.zero_le _
      · exact h
      · have h5 := hG.1 d (ge_lt2 hd hc)
        dsimp only at h5 hl h12 ⊢
        omega
  | succ j ih =>
    intro i hi n hn lg sg h1 h2
    obtain ⟨n, rfl⟩ : ∃ m, n = m + 1 := ⟨n - 1, by omega⟩
    have ci : (nI i).toNatClampNeg = i := nI_clamp (by omega)
    have ii : vp_in (nI i) 216 := vp_in_nI (by omega) (by decide)
    refine br_f (nI_ge (a := i) (b := 216) (by omega) (by decide)) ⟨ii, ii, nm_r (ar_wN ci (ar_at ci)) ?_⟩
    have h1' : ∀ c, c < i + 1 → ar_u lg i (la i) c = la c := fun c hc => by
      by_cases e : c = i
      · subst e; exact ar_us
      · rw [ar_un e]; exact h1 c (by omega)
    refine ys_sees I.2.1 (by omega) (ar_brb (fun hs => ⟨ii, nm_r (ar_wN (x := 0) ci rfl) ?_⟩) (fun hs => ⟨ii, nm_r (ar_wN (x := 8) ci rfl) ?_⟩))
    · refine nm_r (nI_1 i) (ih (i + 1) (by omega) n (by omega) _ _ h1' (fun c hc => ?_))
      by_cases e : c = i
      · subst e; rw [ar_us, hs]; rfl
      · rw [ar_un e]; exact h2 c (by omega)
    · refine nm_r (nI_1 i) (ih (i + 1) (by omega) n (by omega) _ _ h1' (fun c hc => ?_))
      by_cases e : c = i
      · subst e; rw [ar_us, hs]; rfl
      · rw [ar_un e]; exact h2 c (by omega)
theorem yf_shine {post : SY → Prop} {lv lg sg : Nat → Nat} (I : rl_I so la se lv)
    (K : ∀ lg sg, (∀ c, c < 216 → lg c = lv c) → (∀ c, c < 216 → sg c = lv (216 + c)) → post (ar_B so, ar_N la, ar_N lg, ar_N sg, ar_N lb, ar_N yk)) : wpY_shine post (ar_B so, ar_N la, ar_N lg, ar_N sg, ar_N lb, ar_N yk) :=
  ⟨217, yf_2 I K 216 0 rfl 217 (by decide) lg sg (fun c hc => absurd hc (Nat.not_lt_zero c)) (fun c hc => absurd hc (Nat.not_lt_zero c))⟩
end YF
end
section
/-! the relation, the constructors, and the calls that change a cell or a lamp -/
/-- the relation: the same solids and lamps; the component's levels are right -/
def i_Rel (k : Nat) (u : SX) (v : SY) : Prop := ∃ (w : Nat) (so : Nat → Bool) (la : Nat → Nat) (se : Nat → Bool) (lv : Nat → Nat) (ri : Nat → Bool) (st lo ke : Nat → Nat) (sn : Nat → Bool) (lg sg lb yk : Nat → Nat), rl_I so la se lv ∧ u = (nI w, ar_B so, ar_N la, ar_B se, ar_N lv, ar_B ri, ar_N st, ar_N lo, ar_N ke, ar_B sn) ∧ v = (ar_B so, ar_N la, ar_N lg, ar_N sg, ar_N lb, ar_N yk)
theorem rl_el {P : SX → SY → Prop} (h : ∀ (w : Nat) (so : Nat → Bool) (la : Nat → Nat) (se : Nat → Bool) (lv : Nat → Nat) (ri : Nat → Bool) (st lo ke : Nat → Nat) (sn : Nat → Bool) (lg sg lb yk : Nat → Nat), rl_I so la se lv → P (nI w, ar_B so, ar_N la, ar_B se, ar_N lv, ar_B ri, ar_N st, ar_N lo, ar_N ke, ar_B sn) (ar_B so, ar_N la, ar_N lg, ar_N sg, ar_N lb, ar_N yk)) {k : Nat} {u : SX} {v : SY} (I : i_Rel k u v) : P u v := by
  obtain ⟨w, so, la, se, lv, ri, st, lo, ke, sn, lg, sg, lb, yk, I, hu, hv⟩ := I
  rw [hu, hv]
  exact h w so la se lv ri st lo ke sn lg sg lb yk I
theorem rl_mk {k w : Nat} {so se ri sn : Nat → Bool} {la lv st lo ke lg sg lb yk : Nat → Nat} (I : rl_I so la se lv) : i_Rel k (nI w, ar_B so, ar_N la, ar_B se, ar_N lv, ar_B ri, ar_N st, ar_N lo, ar_N ke, ar_B sn) (ar_B so, ar_N la, ar_N lg, ar_N sg, ar_N lb, ar_N yk) :=
  ⟨w, so, la, se, lv, ri, st, lo, ke, sn, lg, sg, lb, yk, I, rfl, rfl⟩
theorem i_up {k : Nat} {u : SX} {v : SY} (h : i_Rel k u v) : i_Rel (k + 4) u v := h
theorem rl_0 {se : Nat → Bool} {lv : Nat → Nat} (h1 : ∀ c, c < 216 → se c = true) (h2 : ∀ c, c < 216 → lv c = 0 ∧ lv (216 + c) = 8) : rl_I (fun _ => false) (fun _ => 0) se lv := by
  refine ⟨fun _ _ => Nat.zero_le _, fun x hx => ?_, fun p hp => ?_, fun p hp => ?_, fun p hp => ?_, fun p hp q hq hs => ?_⟩
  · unfold lf_Se
    rw [h1 x hx]
    by_cases e : 216 ≤ x + 36
    · rw [decide_eq_true e]; rfl
    · rw [h1 (x + 36) (by omega), Bool.or_true]; rfl
  · rcases ge_two hp with h | ⟨x, hx, rfl⟩
    · have := (h2 p h).1; omega
    · have := (h2 x hx).2; omega
  · rcases ge_two hp with h | ⟨x, hx, rfl⟩
    · exact Or.inl (h2 p h).1
    · refine Or.inr (Or.inl ?_)
      rw [lf_s2, h1 x hx, (h2 x hx).2]; exact Nat.le_refl 8
  · rcases ge_two hp with h | ⟨x, hx, rfl⟩
    · rw [lf_s1 h]; exact Nat.zero_le _
    · rw [lf_s2, h1 x hx, (h2 x hx).2]; exact Nat.le_refl 8
  · rcases ge_two hp with h | ⟨x, hx, rfl⟩
    · rw [(h2 p h).1]; exact Nat.zero_le _
    · have hg := ge_ge2 hq (Nat.le_add_right 216 x)
      have hl := ge_lt4 hq hp
      obtain ⟨d, rfl⟩ : ∃ d, q = 216 + d := ⟨q - 216, by omega⟩
      rw [(h2 x hx).2, (h2 d (by omega)).2]; decide
theorem xi_87 {post : SX → Prop} {w : Nat} {so ri sn : Nat → Bool} {la st lo ke : Nat → Nat} (K : ∀ se lv, (∀ c, c < 216 → se c = true) → (∀ c, c < 216 → lv c = 0 ∧ lv (216 + c) = 8) → post (nI w, ar_B so, ar_N la, ar_B se, ar_N lv, ar_B ri, ar_N st, ar_N lo, ar_N ke, ar_B sn)) :
    ∀ j i, i + j = 216 → ∀ n, j < n → ∀ se lv, (∀ c, c < i → se c = true) → (∀ c, c < 216 → lv c = 0) → (∀ c, c < i → lv (216 + c) = 8) → wX_init_87 post (nI w) n (nI i) (ar_B so) (ar_N la) (ar_B se) (ar_N lv) (ar_B ri) (ar_N st) (ar_N lo) (ar_N ke) (ar_B sn) := by
  intro j
  induction j with
  | zero =>
    intro i hi n hn se lv h1 h2 h3
    obtain ⟨n, rfl⟩ : ∃ m, n = m + 1 := ⟨n - 1, by omega⟩
    obtain rfl : i = 216 := by omega
    exact br_t (nI_le (a := 216) (b := 216) (by omega) (by omega)) (K se lv h1 (fun c hc => ⟨h2 c hc, h3 c hc⟩))
  | succ j ih =>
    intro i hi n hn se lv h1 h2 h3
    obtain ⟨n, rfl⟩ : ∃ m, n = m + 1 := ⟨n - 1, by omega⟩
    have e1 : (216 : Int32) + nI i = nI (216 + i) := nI_add 216 i
    refine br_f (nI_ge (a := i) (b := 216) (by omega) (by decide)) ?_
    rw [e1]
    refine ⟨vp_in_nI (by omega) (by decide), nm_r (ar_wT (nI_clamp (by omega))) ⟨vp_in_nI (by omega) (by decide), nm_r (ar_wN (x := 8) (nI_clamp (by omega)) rfl) (nm_r (nI_1 i) (ih (i + 1) (by omega) n (by omega) _ _ (fun c hc => ?_) (fun c hc => ?_) (fun c hc => ?_)))⟩⟩
    · by_cases e : c = i
      · subst e; exact ar_us
      · rw [ar_un e]; exact h1 c (by omega)
    · rw [ar_un (by omega)]; exact h2 c hc
    · by_cases e : c = i
      · subst e; exact ar_us
      · rw [ar_un (by omega)]; exact h3 c (by omega)
theorem i_vc0 : wpX_init (fun u => wpY_init (fun v => i_Rel 0 u v)) := by
  refine ⟨217, ?_⟩
  refine xi_87 (w := 0) (so := fun _ => false) (ri := fun _ => false) (sn := fun _ => false) (la := fun _ => 0) (st := fun _ => 0) (lo := fun _ => 0) (ke := fun _ => 0) (fun se lv h1 h2 => ?_) 216 0 rfl 217 (by decide) (fun _ => false) (fun _ => 0) (fun c hc => absurd hc (Nat.not_lt_zero c)) (fun c hc => rfl) (fun c hc => absurd hc (Nat.not_lt_zero c))
  exact rl_mk (k := 0) (lg := fun _ => 0) (sg := fun _ => 0) (lb := fun _ => 0) (yk := fun _ => 0) (rl_0 h1 h2)
section RL
variable {so se ri sn : Nat → Bool} {la lv st lo ke lg sg lb yk : Nat → Nat} {w : Nat}
theorem rl_solidX {post : Int32 → SX → Prop} {c : Nat} {x2 : Int32} {b : Bool} (hc : c < 216) (hb : (x2 = 0 ∧ b = false) ∨ (¬ x2 = 0 ∧ b = true)) (I : rl_I so la se lv)
    (K : ∀ w se lv ri st lo, rl_I (ar_u so c b) la se lv → post (ar_b (so c)) (nI w, ar_B (ar_u so c b), ar_N la, ar_B se, ar_N lv, ar_B ri, ar_N st, ar_N lo, ar_N ke, ar_B sn)) : wpX_solid post (nI w, ar_B so, ar_N la, ar_B se, ar_N lv, ar_B ri, ar_N st, ar_N lo, ar_N ke, ar_B sn) (nI c) x2 := by
  unfold wpX_solid
  dsimp only
  refine xb_isCell (fun h => absurd ⟨c, hc, rfl⟩ h) (fun _ => br_f (by decide) ⟨vp_in_nI hc (by decide), ar_br c (nI_clamp (by omega)) (fun hs => ?_) (fun hs => ?_)⟩)
  · rw [hs] at K
    unfold wX_solid_23 wX_solid_35
    rcases hb with ⟨h2, rfl⟩ | ⟨h2, rfl⟩
    · exact br_t h2 (xc_change (b := false) rfl hc I K)
    · exact br_f h2 (xc_change (b := true) rfl hc I K)
  · rw [hs] at K
    unfold wX_solid_23 wX_solid_35
    rcases hb with ⟨h2, rfl⟩ | ⟨h2, rfl⟩
    · exact br_t h2 (xc_change (b := false) rfl hc I K)
    · exact br_f h2 (xc_change (b := true) rfl hc I K)
theorem rl_solidY {post : Int32 → SY → Prop} {c : Nat} {x2 : Int32} {b : Bool} (hc : c < 216) (hb : (x2 = 0 ∧ b = false) ∨ (¬ x2 = 0 ∧ b = true))
    (K : post (ar_b (so c)) (ar_B (ar_u so c b), ar_N la, ar_N lg, ar_N sg, ar_N lb, ar_N yk)) : wpY_solid post (ar_B so, ar_N la, ar_N lg, ar_N sg, ar_N lb, ar_N yk) (nI c) x2 := by
  unfold wpY_solid
  dsimp only
  have ic : vp_in (nI c) 216 := vp_in_nI hc (by decide)
  have cc : (nI c).toNatClampNeg = c := nI_clamp (by omega)
  refine yb_bad (fun h => absurd ⟨c, hc, rfl⟩ h) (fun _ => br_t rfl ⟨ic, ar_br c cc (fun hs => ?_) (fun hs => ?_)⟩)
  · rw [hs] at K
    rcases hb with ⟨h2, rfl⟩ | ⟨h2, rfl⟩
    · exact br_t h2 ⟨ic, nm_r (ar_wF cc) K⟩
    · exact br_f h2 ⟨ic, nm_r (ar_wT cc) K⟩
  · rw [hs] at K
    rcases hb with ⟨h2, rfl⟩ | ⟨h2, rfl⟩
    · exact br_t h2 ⟨ic, nm_r (ar_wF cc) K⟩
    · exact br_f h2 ⟨ic, nm_r (ar_wT cc) K⟩
theorem rl_flag (x : Int32) : ∃ b : Bool, (x = 0 ∧ b = false) ∨ (¬ x = 0 ∧ b = true) := by
  by_cases h : x = 0
  · exact ⟨false, Or.inl ⟨h, rfl⟩⟩
  · exact ⟨true, Or.inr ⟨h, rfl⟩⟩
end RL
theorem i_vc_solid {k : Nat} {u : SX} {v : SY} (I : i_Rel k u v) (hk : k + 4 ≤ 2048) (v1 : Int32) (v2 : Int32) : wpX_solid (fun r u' => wpY_solid (fun r' v' => r' = r ∧ i_Rel (k + 4) u' v') v v1 v2) u v1 v2 := by
  refine rl_el (P := fun u v => wpX_solid (fun r u' => wpY_solid (fun r' v' => r' = r ∧ i_Rel (k + 4) u' v') v v1 v2) u v1 v2) ?_ I
  intro w so la se lv ri st lo ke sn lg sg lb yk I
  by_cases h : ce_ok v1
  · obtain ⟨c, hc, rfl⟩ := h
    obtain ⟨b, hb⟩ := rl_flag v2
    exact rl_solidX hc hb I (fun w se lv ri st lo I' => rl_solidY hc hb ⟨rfl, rl_mk I'⟩)
  · unfold wpX_solid
    dsimp only
    refine xb_isCell (fun _ => br_t rfl ?_) (fun h' => absurd h' h)
    unfold wpY_solid
    dsimp only
    exact yb_bad (fun _ => br_f (by decide) ⟨rfl, rl_mk I⟩) (fun h' => absurd h' h)
theorem i_vc_lamp {k : Nat} {u : SX} {v : SY} (I : i_Rel k u v) (hk : k + 4 ≤ 2048) (v1 : Int32) (v2 : Int32) : wpX_lamp (fun r u' => wpY_lamp (fun r' v' => r' = r ∧ i_Rel (k + 4) u' v') v v1 v2) u v1 v2 := by
  refine rl_el (P := fun u v => wpX_lamp (fun r u' => wpY_lamp (fun r' v' => r' = r ∧ i_Rel (k + 4) u' v') v v1 v2) u v1 v2) ?_ I
  intro w so la se lv ri st lo ke sn lg sg lb yk I
  unfold wpX_lamp wpY_lamp
  dsimp only
  by_cases h : ce_ok v1
  · have h' := h
    obtain ⟨c, hc, rfl⟩ := h'
    have ic : vp_in (nI c) 216 := vp_in_nI hc (by decide)
    have cc : (nI c).toNatClampNeg = c := nI_clamp (by omega)
    refine xb_isCell (fun h' => absurd h h') (fun _ => br_f (by decide) (br_c (fun h2 => ?_) (fun h2 => br_c (fun h3 => ⟨ic, nm_r (ar_at cc) ?_⟩) (fun h3 => ?_))))
    · exact yb_bad (fun h' => absurd h h') (fun _ => br_t rfl (br_t h2 ⟨rfl, rl_mk I⟩))
    · obtain ⟨s, hs, rfl⟩ := nI_of2 (M := 12) (n := 12) (by decide) h2 h3
      refine xc_lamp hc hs I (fun w lv ri st lo I' => ?_)
      exact yb_bad (fun h' => absurd h h') (fun _ => br_t rfl (br_f h2 (br_t h3 ⟨ic, nm_r (ar_at cc) ⟨ic, nm_r (ar_wN cc rfl) ⟨rfl, rl_mk I'⟩⟩⟩)))
    · exact yb_bad (fun h' => absurd h h') (fun _ => br_t rfl (br_f h2 (br_f h3 ⟨rfl, rl_mk I⟩)))
  · refine xb_isCell (fun _ => br_t rfl ?_) (fun h' => absurd h' h)
    exact yb_bad (fun _ => br_f (by decide) ⟨rfl, rl_mk I⟩) (fun h' => absurd h' h)
theorem i_vc_isSolid {k : Nat} {u : SX} {v : SY} (I : i_Rel k u v) (hk : k + 4 ≤ 2048) (v1 : Int32) : wpX_isSolid (fun r => wpY_isSolid (fun r' => r' = r ∧ i_Rel (k + 4) u v) v v1) u v1 := by
  refine rl_el (P := fun u v => wpX_isSolid (fun r => wpY_isSolid (fun r' => r' = r ∧ i_Rel (k + 4) u v) v v1) u v1) ?_ I
  intro w so la se lv ri st lo ke sn lg sg lb yk I
  unfold wpX_isSolid wpY_isSolid
  dsimp only
  by_cases h : ce_ok v1
  · have h' := h
    obtain ⟨c, hc, rfl⟩ := h'
    have ic : vp_in (nI c) 216 := vp_in_nI hc (by decide)
    have cc : (nI c).toNatClampNeg = c := nI_clamp (by omega)
    refine xb_isCell (fun h' => absurd h h') (fun _ => br_f (by decide) ⟨ic, br_c (fun h2 => ?_) (fun h2 => ?_)⟩)
    · exact yb_bad (fun h' => absurd h h') (fun _ => br_t rfl ⟨ic, br_t h2 ⟨rfl, rl_mk I⟩⟩)
    · exact yb_bad (fun h' => absurd h h') (fun _ => br_t rfl ⟨ic, br_f h2 ⟨rfl, rl_mk I⟩⟩)
  · refine xb_isCell (fun _ => br_t rfl ?_) (fun h' => absurd h' h)
    exact yb_bad (fun _ => br_f (by decide) ⟨rfl, rl_mk I⟩) (fun h' => absurd h' h)
theorem i_vc_lamplight {k : Nat} {u : SX} {v : SY} (I : i_Rel k u v) (hk : k + 4 ≤ 2048) (v1 : Int32) : wpX_lamplight (fun r => wpY_lamplight (fun r' v' => r' = r ∧ i_Rel (k + 4) u v') v v1) u v1 := by
  refine rl_el (P := fun u v => wpX_lamplight (fun r => wpY_lamplight (fun r' v' => r' = r ∧ i_Rel (k + 4) u v') v v1) u v1) ?_ I
  intro w so la se lv ri st lo ke sn lg sg lb yk I
  unfold wpX_lamplight wpY_lamplight
  dsimp only
  by_cases h : ce_ok v1
  · have h' := h
    obtain ⟨c, hc, rfl⟩ := h'
    have ic : vp_in (nI c) 216 := vp_in_nI hc (by decide)
    have cc : (nI c).toNatClampNeg = c := nI_clamp (by omega)
    refine xb_isCell (fun h' => absurd h h') (fun _ => br_f (by decide) ⟨vp_in_nI (by omega) (by decide), ?_⟩)
    refine yb_bad (fun h' => absurd h h') (fun _ => br_t rfl ?_)
    refine yf_shine I (fun lg sg h1 h2 => ⟨ic, ?_, rl_mk I⟩)
    show ar_N lg (nI c).toNatClampNeg = ar_N lv (nI c).toNatClampNeg
    rw [ar_at cc, ar_at cc, h1 c hc]
  · refine xb_isCell (fun _ => br_t rfl ?_) (fun h' => absurd h' h)
    exact yb_bad (fun _ => br_f (by decide) ⟨rfl, rl_mk I⟩) (fun h' => absurd h' h)
theorem i_vc_skylight {k : Nat} {u : SX} {v : SY} (I : i_Rel k u v) (hk : k + 4 ≤ 2048) (v1 : Int32) : wpX_skylight (fun r => wpY_skylight (fun r' v' => r' = r ∧ i_Rel (k + 4) u v') v v1) u v1 := by
  refine rl_el (P := fun u v => wpX_skylight (fun r => wpY_skylight (fun r' v' => r' = r ∧ i_Rel (k + 4) u v') v v1) u v1) ?_ I
  intro w so la se lv ri st lo ke sn lg sg lb yk I
  unfold wpX_skylight wpY_skylight
  dsimp only
  by_cases h : ce_ok v1
  · have h' := h
    obtain ⟨c, hc, rfl⟩ := h'
    have ic : vp_in (nI c) 216 := vp_in_nI hc (by decide)
    have cc : (nI c).toNatClampNeg = c := nI_clamp (by omega)
    have e1 : (216 : Int32) + nI c = nI (216 + c) := nI_add 216 c
    have cd : (nI (216 + c)).toNatClampNeg = 216 + c := nI_clamp (by omega)
    rw [e1]
    refine xb_isCell (fun h' => absurd h h') (fun _ => br_f (by decide) ⟨vp_in_nI (by omega) (by decide), ?_⟩)
    refine yb_bad (fun h' => absurd h h') (fun _ => br_t rfl ?_)
    refine yf_shine I (fun lg sg h1 h2 => ⟨ic, ?_, rl_mk I⟩)
    show ar_N sg (nI c).toNatClampNeg = ar_N lv (nI (216 + c)).toNatClampNeg
    rw [ar_at cc, ar_at cd, h2 c hc]
  · refine xb_isCell (fun _ => br_t rfl ?_) (fun h' => absurd h' h)
    exact yb_bad (fun _ => br_f (by decide) ⟨rfl, rl_mk I⟩) (fun h' => absurd h' h)
end
section
/-! fill and shell -/
def fi_so (so : Nat → Bool) (f : Nat → Bool) (b : Bool) (i : Nat) : Nat → Bool := fun j => if j < i ∧ f j = true then b else so j
def fi_g (so : Nat → Bool) (f : Nat → Bool) (b : Bool) : Nat → Bool := fun j => f j && (so j != b)
section FI
variable {so f : Nat → Bool} {b : Bool} {i : Nat}
theorem fi_0 : fi_so so f b 0 = so := by
  funext j
  exact if_neg (fun h => absurd h.1 (Nat.not_lt_zero j))
theorem fi_at : fi_so so f b i i = so i := if_neg (fun h => absurd h.1 (Nat.lt_irrefl i))
theorem fi_s1 (h : f i = true) : fi_so so f b (i + 1) = ar_u (fi_so so f b i) i b := by
  funext j
  by_cases e : j = i
  · subst e; rw [ar_us]; exact if_pos ⟨Nat.lt_succ_self j, h⟩
  · rw [ar_un e]
    unfold fi_so
    by_cases h2 : j < i ∧ f j = true
    · rw [if_pos h2, if_pos ⟨by omega, h2.2⟩]
    · rw [if_neg h2, if_neg (fun z => h2 ⟨by omega, z.2⟩)]
theorem fi_s0 (h : f i = true → so i = b) : fi_so so f b (i + 1) = fi_so so f b i := by
  funext j
  unfold fi_so
  by_cases h2 : j < i ∧ f j = true
  · rw [if_pos h2, if_pos ⟨by omega, h2.2⟩]
  · rw [if_neg h2]
    by_cases h3 : j < i + 1 ∧ f j = true
    · rw [if_pos h3]
      have e : j = i := by
        by_cases e : j < i
        · exact absurd ⟨e, h3.2⟩ h2
        · omega
      subst e
      exact (h h3.2).symm
    · rw [if_neg h3]
theorem fi_g1 (h : f i = true) (h2 : so i ≠ b) : fi_g so f b i = true := by
  show (f i && (so i != b)) = true
  rw [h, Bool.true_and, bne_iff_ne]; exact h2
theorem fi_g0 (h : f i = true → so i = b) : fi_g so f b i = false := by
  show (f i && (so i != b)) = false
  cases hf : f i
  · rfl
  · rw [h hf, bne_self_eq_false]; rfl
end FI
section FX
variable {so se ri sn f : Nat → Bool} {la lv st lo ke lg sg lb yk : Nat → Nat} {w l r : Nat} {b : Bool} {x3 : Int32}
theorem fx_65 {post : Int32 → SX → Prop} {J : Int32 → Int32 → Int32 → (Nat → Int32) → (Nat → Int32) → (Nat → Int32) → (Nat → Int32) → (Nat → Int32) → (Nat → Int32) → (Nat → Int32) → (Nat → Int32) → (Nat → Int32) → Prop} {x1 x2 : Int32} {s i : Nat} (hi : i < 216) (I : rl_I so la se lv)
    (K : ∀ w se lv ri st lo, rl_I (ar_u so i b) la se lv → J (nI (s + 1)) (nI (i + 1)) (nI w) (ar_B (ar_u so i b)) (ar_N la) (ar_B se) (ar_N lv) (ar_B ri) (ar_N st) (ar_N lo) (ar_N ke) (ar_B sn)) : wX_fill_65 post J x1 x2 x3 (nI s) (nI i) (ar_b b) (nI i) (nI w) (ar_B so) (ar_N la) (ar_B se) (ar_N lv) (ar_B ri) (ar_N st) (ar_N lo) (ar_N ke) (ar_B sn) := by
  unfold wX_fill_65
  exact xc_change rfl hi I (fun w se lv ri st lo I' => nm_r (nI_1 s) (nm_r (nI_1 i) (K w se lv ri st lo I')))
theorem fx_50 {post : Int32 → SX → Prop} {J : Int32 → Int32 → Int32 → (Nat → Int32) → (Nat → Int32) → (Nat → Int32) → (Nat → Int32) → (Nat → Int32) → (Nat → Int32) → (Nat → Int32) → (Nat → Int32) → (Nat → Int32) → Prop} {x1 x2 : Int32} {s i : Nat} (hi : i < 216) (I : rl_I so la se lv) (hb : (x3 = 0 ∧ b = false) ∨ (¬ x3 = 0 ∧ b = true))
    (K0 : so i = b → J (nI s) (nI (i + 1)) (nI w) (ar_B so) (ar_N la) (ar_B se) (ar_N lv) (ar_B ri) (ar_N st) (ar_N lo) (ar_N ke) (ar_B sn))
    (K : so i ≠ b → ∀ w se lv ri st lo, rl_I (ar_u so i b) la se lv → J (nI (s + 1)) (nI (i + 1)) (nI w) (ar_B (ar_u so i b)) (ar_N la) (ar_B se) (ar_N lv) (ar_B ri) (ar_N st) (ar_N lo) (ar_N ke) (ar_B sn)) : wX_fill_50 post J x1 x2 x3 (nI s) (nI i) (ar_b b) (ar_b (so i)) (nI w) (ar_B so) (ar_N la) (ar_B se) (ar_N lv) (ar_B ri) (ar_N st) (ar_N lo) (ar_N ke) (ar_B sn) := by
  refine br_c (fun h => nm_r (nI_1 i) (K0 (ar_bi.mp h))) (fun h => ?_)
  have h2 : so i ≠ b := fun z => h (ar_bi.mpr z)
  rcases hb with ⟨h3, rfl⟩ | ⟨h3, rfl⟩
  · exact br_t h3 (fx_65 hi I (K h2))
  · exact br_f h3 (fx_65 hi I (K h2))
theorem fx_16 {post : Int32 → SX → Prop} (hl : l < 216) (hr : r < 216) (hb : (x3 = 0 ∧ b = false) ∨ (¬ x3 = 0 ∧ b = true)) (hf : f = fun j => bx_in j l r)
    (K : ∀ w se lv ri st lo, rl_I (fi_so so f b 216) la se lv → post (nI (cn_t (fi_g so f b) 216)) (nI w, ar_B (fi_so so f b 216), ar_N la, ar_B se, ar_N lv, ar_B ri, ar_N st, ar_N lo, ar_N ke, ar_B sn)) :
    ∀ j i, i + j = 216 → ∀ n, j < n → ∀ w se lv ri st lo, rl_I (fi_so so f b i) la se lv → wX_fill_16 post (nI l) (nI r) x3 n (nI (cn_t (fi_g so f b) i)) (nI i) (nI w) (ar_B (fi_so so f b i)) (ar_N la) (ar_B se) (ar_N lv) (ar_B ri) (ar_N st) (ar_N lo) (ar_N ke) (ar_B sn) := by
  intro j
  induction j with
  | zero =>
    intro i hi n hn w se lv ri st lo I
    obtain ⟨n, rfl⟩ : ∃ m, n = m + 1 := ⟨n - 1, by omega⟩
    obtain rfl : i = 216 := by omega
    exact br_t (nI_le (a := 216) (b := 216) (by omega) (by omega)) (K w se lv ri st lo I)
  | succ j ih =>
    intro i hi n hn w se lv ri st lo I
    obtain ⟨n, rfl⟩ : ∃ m, n = m + 1 := ⟨n - 1, by omega⟩
    have hi2 : i < 216 := by omega
    have ci : (nI i).toNatClampNeg = i := nI_clamp (by omega)
    have I0 : (f i = true → so i = b) → wX_fill_16 post (nI l) (nI r) x3 n (nI (cn_t (fi_g so f b) i)) (nI (i + 1)) (nI w) (ar_B (fi_so so f b i)) (ar_N la) (ar_B se) (ar_N lv) (ar_B ri) (ar_N st) (ar_N lo) (ar_N ke) (ar_B sn) := fun h => by
      have h1 := ih (i + 1) (by omega) n (by omega) w se lv ri st lo (by rw [fi_s0 h]; exact I)
      rw [fi_s0 h, cn_n (fi_g0 h)] at h1
      exact h1
    have I1 : f i = true → so i ≠ b → ∀ w se lv ri st lo, rl_I (ar_u (fi_so so f b i) i b) la se lv → wX_fill_16 post (nI l) (nI r) x3 n (nI (cn_t (fi_g so f b) i + 1)) (nI (i + 1)) (nI w) (ar_B (ar_u (fi_so so f b i) i b)) (ar_N la) (ar_B se) (ar_N lv) (ar_B ri) (ar_N st) (ar_N lo) (ar_N ke) (ar_B sn) := fun h h2 w se lv ri st lo I' => by
      have h1 := ih (i + 1) (by omega) n (by omega) w se lv ri st lo (by rw [fi_s1 h]; exact I')
      rw [fi_s1 h, cn_s (fi_g1 h h2)] at h1
      exact h1
    have hfi : f i = bx_in i l r := by rw [hf]
    refine br_f (nI_ge (a := i) (b := 216) (by omega) (by decide)) (xb_inBox hi2 hl hr (ar_brb (fun e => nm_r (nI_1 i) (I0 (fun z => by rw [hfi, e] at z; exact nomatch z))) (fun e => ⟨vp_in_nI hi2 (by decide), ?_⟩)))
    rw [ci, ar_Be]
    have J : wX_fill_50 post (wX_fill_16 post (nI l) (nI r) x3 n) (nI l) (nI r) x3 (nI (cn_t (fi_g so f b) i)) (nI i) (ar_b b) (ar_b (fi_so so f b i i)) (nI w) (ar_B (fi_so so f b i)) (ar_N la) (ar_B se) (ar_N lv) (ar_B ri) (ar_N st) (ar_N lo) (ar_N ke) (ar_B sn) :=
      fx_50 hi2 I hb (fun h => I0 (fun _ => by rw [← h, fi_at])) (fun h => I1 (by rw [hfi, e]) (fun z => h (by rw [fi_at, z])))
    rcases hb with ⟨h3, h4⟩ | ⟨h3, h4⟩
    · rw [h4] at J ⊢; exact br_t h3 J
    · rw [h4] at J ⊢; exact br_f h3 J
theorem fy_52 {post : Int32 → SY → Prop} {J : Int32 → Int32 → (Nat → Int32) → (Nat → Int32) → (Nat → Int32) → (Nat → Int32) → (Nat → Int32) → (Nat → Int32) → Prop} {x1 x2 : Int32} {s i : Nat} (hi : i < 216) (hb : (x3 = 0 ∧ b = false) ∨ (¬ x3 = 0 ∧ b = true))
    (K0 : so i = b → J (nI s) (nI (i + 1)) (ar_B so) (ar_N la) (ar_N lg) (ar_N sg) (ar_N lb) (ar_N yk)) (K : so i ≠ b → J (nI (s + 1)) (nI (i + 1)) (ar_B (ar_u so i b)) (ar_N la) (ar_N lg) (ar_N sg) (ar_N lb) (ar_N yk)) : wY_fill_52 post J x1 x2 x3 (nI s) (nI i) (ar_b b) (ar_b (so i)) (ar_B so) (ar_N la) (ar_N lg) (ar_N sg) (ar_N lb) (ar_N yk) := by
  have ci : (nI i).toNatClampNeg = i := nI_clamp (by omega)
  refine br_c (fun h => nm_r (nI_1 i) (K0 (ar_bi.mp h))) (fun h => ?_)
  have h2 : so i ≠ b := fun z => h (ar_bi.mpr z)
  rcases hb with ⟨h3, rfl⟩ | ⟨h3, rfl⟩
  · exact br_t h3 ⟨vp_in_nI hi (by decide), nm_r (ar_wF ci) (nm_r (nI_1 s) (nm_r (nI_1 i) (K h2)))⟩
  · exact br_f h3 ⟨vp_in_nI hi (by decide), nm_r (ar_wT ci) (nm_r (nI_1 s) (nm_r (nI_1 i) (K h2)))⟩
theorem fy_17 {post : Int32 → SY → Prop} (hl : l < 216) (hr : r < 216) (hb : (x3 = 0 ∧ b = false) ∨ (¬ x3 = 0 ∧ b = true)) (hf : f = fun j => bx_in j l r)
    (K : post (nI (cn_t (fi_g so f b) 216)) (ar_B (fi_so so f b 216), ar_N la, ar_N lg, ar_N sg, ar_N lb, ar_N yk)) :
    ∀ j i, i + j = 216 → ∀ n, j < n → wY_fill_17 post (nI l) (nI r) x3 n (nI (cn_t (fi_g so f b) i)) (nI i) (ar_B (fi_so so f b i)) (ar_N la) (ar_N lg) (ar_N sg) (ar_N lb) (ar_N yk) := by
  intro j
  induction j with
  | zero =>
    intro i hi n hn
    obtain ⟨n, rfl⟩ : ∃ m, n = m + 1 := ⟨n - 1, by omega⟩
    obtain rfl : i = 216 := by omega
    exact br_t (nI_le (a := 216) (b := 216) (by omega) (by omega)) K
  | succ j ih =>
    intro i hi n hn
    obtain ⟨n, rfl⟩ : ∃ m, n = m + 1 := ⟨n - 1, by omega⟩
    have hi2 : i < 216 := by omega
    have ci : (nI i).toNatClampNeg = i := nI_clamp (by omega)
    have I0 : (f i = true → so i = b) → wY_fill_17 post (nI l) (nI r) x3 n (nI (cn_t (fi_g so f b) i)) (nI (i + 1)) (ar_B (fi_so so f b i)) (ar_N la) (ar_N lg) (ar_N sg) (ar_N lb) (ar_N yk) := fun h => by
      have h1 := ih (i + 1) (by omega) n (by omega)
      rw [fi_s0 h, cn_n (fi_g0 h)] at h1
      exact h1
    have I1 : f i = true → so i ≠ b → wY_fill_17 post (nI l) (nI r) x3 n (nI (cn_t (fi_g so f b) i + 1)) (nI (i + 1)) (ar_B (ar_u (fi_so so f b i) i b)) (ar_N la) (ar_N lg) (ar_N sg) (ar_N lb) (ar_N yk) := fun h h2 => by
      have h1 := ih (i + 1) (by omega) n (by omega)
      rw [fi_s1 h, cn_s (fi_g1 h h2)] at h1
      exact h1
    have hfi : f i = bx_in i l r := by rw [hf]
    refine br_f (nI_ge (a := i) (b := 216) (by omega) (by decide)) (yb_inBox hi2 hl hr (ar_brb (fun e => nm_r (nI_1 i) (I0 (fun z => by rw [hfi, e] at z; exact nomatch z))) (fun e => ⟨vp_in_nI hi2 (by decide), ?_⟩)))
    rw [ci, ar_Be]
    have J : wY_fill_52 post (wY_fill_17 post (nI l) (nI r) x3 n) (nI l) (nI r) x3 (nI (cn_t (fi_g so f b) i)) (nI i) (ar_b b) (ar_b (fi_so so f b i i)) (ar_B (fi_so so f b i)) (ar_N la) (ar_N lg) (ar_N sg) (ar_N lb) (ar_N yk) :=
      fy_52 hi2 hb (fun h => I0 (fun _ => by rw [← h, fi_at])) (fun h => I1 (by rw [hfi, e]) (fun z => h (by rw [fi_at, z])))
    rcases hb with ⟨h3, h4⟩ | ⟨h3, h4⟩
    · rw [h4] at J ⊢; exact br_t h3 J
    · rw [h4] at J ⊢; exact br_f h3 J
end FX
theorem i_vc_fill {k : Nat} {u : SX} {v : SY} (I : i_Rel k u v) (hk : k + 4 ≤ 2048) (v1 : Int32) (v2 : Int32) (v3 : Int32) : wpX_fill (fun r u' => wpY_fill (fun r' v' => r' = r ∧ i_Rel (k + 4) u' v') v v1 v2 v3) u v1 v2 v3 := by
  refine rl_el (P := fun u v => wpX_fill (fun r u' => wpY_fill (fun r' v' => r' = r ∧ i_Rel (k + 4) u' v') v v1 v2 v3) u v1 v2 v3) ?_ I
  intro w so la se lv ri st lo ke sn lg sg lb yk I
  unfold wpX_fill wpY_fill
  dsimp only
  by_cases h : bx_ok v1 v2
  · have h' := h
    obtain ⟨l, r, hl, hr, rfl, rfl, _⟩ := h'
    obtain ⟨b, hb⟩ := rl_flag v3
    refine xb_isBox (fun h' => absurd h h') (fun _ => br_f (by decide) ⟨217, ?_⟩)
    have HX := fx_16 (so := so) (la := la) (sn := sn) (ke := ke) (f := fun j => bx_in j l r) (b := b) (x3 := v3) (post := fun r_1 u' => wpY_badBox (fun r_2 => (r_2 = 0 → ∃ n17, wY_fill_17 (fun r' v' => r' = r_1 ∧ i_Rel (k + 4) u' v') (nI l) (nI r) v3 n17 0 0 (ar_B so) (ar_N la) (ar_N lg) (ar_N sg) (ar_N lb) (ar_N yk)) ∧ (¬ r_2 = 0 → (-1 = r_1 ∧ i_Rel (k + 4) u' (ar_B so, ar_N la, ar_N lg, ar_N sg, ar_N lb, ar_N yk)))) (ar_B so, ar_N la, ar_N lg, ar_N sg, ar_N lb, ar_N yk) (nI l) (nI r)) hl hr hb rfl (fun w se lv ri st lo I' => ?_) 216 0 rfl 217 (by decide) w se lv ri st lo (by rw [fi_0]; exact I)
    · rw [fi_0] at HX
      exact HX
    · refine yb_badBox (fun h' => absurd h h') (fun _ => br_t rfl ⟨217, ?_⟩)
      have HY := fy_17 (so := so) (la := la) (lg := lg) (sg := sg) (lb := lb) (yk := yk) (f := fun j => bx_in j l r) (b := b) (x3 := v3) (post := fun r' v' => r' = nI (cn_t (fi_g so (fun j => bx_in j l r) b) 216) ∧ i_Rel (k + 4) (nI w, ar_B (fi_so so (fun j => bx_in j l r) b 216), ar_N la, ar_B se, ar_N lv, ar_B ri, ar_N st, ar_N lo, ar_N ke, ar_B sn) v') hl hr hb rfl ⟨rfl, rl_mk I'⟩ 216 0 rfl 217 (by decide)
      rw [fi_0] at HY
      exact HY
  · refine xb_isBox (fun _ => br_t rfl ?_) (fun h' => absurd h' h)
    exact yb_badBox (fun _ => br_f (by decide) ⟨rfl, rl_mk I⟩) (fun h' => absurd h' h)
end
section
/-! shell -/
def bx_wx (c l h : Nat) : Bool := decide (c % 6 = l % 6) || decide (c % 6 = h % 6)
def bx_wy (c l h : Nat) : Bool := decide (c / 6 % 6 = l / 6 % 6) || decide (c / 6 % 6 = h / 6 % 6)
def bx_wz (c l h : Nat) : Bool := decide (c / 36 = l / 36) || decide (c / 36 = h / 36)
def bx_w (c l h : Nat) : Bool := bx_wx c l h || bx_wy c l h || bx_wz c l h
section SW
variable {post : Int32 → Prop} {c l r : Nat}
theorem sw_67 (hc : c < 216) (hl : l < 216) (hr : r < 216) {x z : Bool} (P : post (ar_b (x || z || bx_wz c l r))) : wX_onWall_67 post (nI c) (nI l) (nI r) (ar_b x) (ar_b z) := by
  refine ar_brb (fun e => ar_brb (fun e2 => ⟨by decide, by decide, pk_eq (c / 36) (l / 36) (fun h => ?_) (fun h => ⟨by decide, by decide, pk_eq (c / 36) (r / 36) (fun h2 => ?_) (fun h2 => ?_) (bx_d36 hc) (bx_d36 hr)⟩) (bx_d36 hc) (bx_d36 hl)⟩) (fun e2 => ?_)) (fun e => ?_)
  · subst e e2; exact bx_p true P (by simp only [bx_wz, Bool.false_or, Bool.or_eq_true, decide_eq_true_eq]; omega)
  · subst e e2; exact bx_p true P (by simp only [bx_wz, Bool.false_or, Bool.or_eq_true, decide_eq_true_eq]; omega)
  · subst e e2; exact bx_p false P (by simp only [bx_wz, Bool.false_or, Bool.or_eq_false_iff, decide_eq_false_iff_not]; omega)
  · subst e e2; exact P
  · subst e; exact bx_p true P (by rw [Bool.true_or, Bool.true_or])
theorem sw_27 (hc : c < 216) (hl : l < 216) (hr : r < 216) {x : Bool} (P : post (ar_b (x || bx_wy c l r || bx_wz c l r))) : wX_onWall_27 post (nI c) (nI l) (nI r) (ar_b x) := by
  refine ⟨by decide, by decide, by decide, by decide, pk_eq (c / 6 % 6) (l / 6 % 6) (fun h => ?_) (fun h => ⟨by decide, by decide, by decide, by decide, pk_eq (c / 6 % 6) (r / 6 % 6) (fun h2 => ?_) (fun h2 => ?_) (bx_q hc) (bx_q hr)⟩) (bx_q hc) (bx_q hl)⟩
  · have e : bx_wy c l r = true := by simp only [bx_wy, Bool.or_eq_true, decide_eq_true_eq]; omega
    rw [e] at P
    exact sw_67 (z := true) hc hl hr P
  · have e : bx_wy c l r = true := by simp only [bx_wy, Bool.or_eq_true, decide_eq_true_eq]; omega
    rw [e] at P
    exact sw_67 (z := true) hc hl hr P
  · have e : bx_wy c l r = false := by simp only [bx_wy, Bool.or_eq_false_iff, decide_eq_false_iff_not]; omega
    rw [e] at P
    exact sw_67 (z := false) hc hl hr P
theorem sw_onWall (hc : c < 216) (hl : l < 216) (hr : r < 216) (P : post (ar_b (bx_w c l r))) : wpX_onWall post (nI c) (nI l) (nI r) := by
  unfold bx_w at P
  refine ⟨by decide, by decide, pk_eq (c % 6) (l % 6) (fun h => ?_) (fun h => ⟨by decide, by decide, pk_eq (c % 6) (r % 6) (fun h2 => ?_) (fun h2 => ?_) (bx_r hc) (bx_r hr)⟩) (bx_r hc) (bx_r hl)⟩
  · have e : bx_wx c l r = true := by simp only [bx_wx, Bool.or_eq_true, decide_eq_true_eq]; omega
    rw [e] at P
    exact sw_27 (x := true) hc hl hr P
  · have e : bx_wx c l r = true := by simp only [bx_wx, Bool.or_eq_true, decide_eq_true_eq]; omega
    rw [e] at P
    exact sw_27 (x := true) hc hl hr P
  · have e : bx_wx c l r = false := by simp only [bx_wx, Bool.or_eq_false_iff, decide_eq_false_iff_not]; omega
    rw [e] at P
    exact sw_27 (x := false) hc hl hr P
end SW
section SH
variable {so se ri sn f : Nat → Bool} {la lv st lo ke lg sg lb yk : Nat → Nat} {w l r : Nat}
theorem sh_15 {post : Int32 → SX → Prop} (hl : l < 216) (hr : r < 216) (hf : f = fun j => bx_in j l r && bx_w j l r)
    (K : ∀ w se lv ri st lo, rl_I (fi_so so f true 216) la se lv → post (nI (cn_t (fi_g so f true) 216)) (nI w, ar_B (fi_so so f true 216), ar_N la, ar_B se, ar_N lv, ar_B ri, ar_N st, ar_N lo, ar_N ke, ar_B sn)) :
    ∀ j i, i + j = 216 → ∀ n, j < n → ∀ w se lv ri st lo, rl_I (fi_so so f true i) la se lv → wX_shell_15 post (nI l) (nI r) n (nI (cn_t (fi_g so f true) i)) (nI i) (nI w) (ar_B (fi_so so f true i)) (ar_N la) (ar_B se) (ar_N lv) (ar_B ri) (ar_N st) (ar_N lo) (ar_N ke) (ar_B sn) := by
  intro j
  induction j with
  | zero =>
    intro i hi n hn w se lv ri st lo I
    obtain ⟨n, rfl⟩ : ∃ m, n = m + 1 := ⟨n - 1, by omega⟩
    obtain rfl : i = 216 := by omega
    exact br_t (nI_le (a := 216) (b := 216) (by omega) (by omega)) (K w se lv ri st lo I)
  | succ j ih =>
    intro i hi n hn w se lv ri st lo I
    obtain ⟨n, rfl⟩ : ∃ m, n = m + 1 := ⟨n - 1, by omega⟩
    have hi2 : i < 216 := by omega
    have ci : (nI i).toNatClampNeg = i := nI_clamp (by omega)
    have I0 : (f i = true → so i = true) → wX_shell_15 post (nI l) (nI r) n (nI (cn_t (fi_g so f true) i)) (nI (i + 1)) (nI w) (ar_B (fi_so so f true i)) (ar_N la) (ar_B se) (ar_N lv) (ar_B ri) (ar_N st) (ar_N lo) (ar_N ke) (ar_B sn) := fun h => by
      have h1 := ih (i + 1) (by omega) n (by omega) w se lv ri st lo (by rw [fi_s0 h]; exact I)
      rw [fi_s0 h, cn_n (fi_g0 h)] at h1
      exact h1
    have I1 : f i = true → so i ≠ true → ∀ w se lv ri st lo, rl_I (ar_u (fi_so so f true i) i true) la se lv → wX_shell_15 post (nI l) (nI r) n (nI (cn_t (fi_g so f true) i + 1)) (nI (i + 1)) (nI w) (ar_B (ar_u (fi_so so f true i) i true)) (ar_N la) (ar_B se) (ar_N lv) (ar_B ri) (ar_N st) (ar_N lo) (ar_N ke) (ar_B sn) := fun h h2 w se lv ri st lo I' => by
      have h1 := ih (i + 1) (by omega) n (by omega) w se lv ri st lo (by rw [fi_s1 h]; exact I')
      rw [fi_s1 h, cn_s (fi_g1 h h2)] at h1
      exact h1
    have hfi : f i = (bx_in i l r && bx_w i l r) := by rw [hf]
    refine br_f (nI_ge (a := i) (b := 216) (by omega) (by decide)) (xb_inBox hi2 hl hr (ar_brb (fun e => nm_r (nI_1 i) (I0 (fun z => by rw [hfi, e] at z; exact nomatch z))) (fun e => sw_onWall hi2 hl hr (ar_brb (fun e2 => nm_r (nI_1 i) (I0 (fun z => by rw [hfi, e, e2] at z; exact nomatch z))) (fun e2 => ⟨vp_in_nI hi2 (by decide), ar_br i ci (fun h => ?_) (fun h => ?_)⟩)))))
    · have h2 : so i ≠ true := fun z => by rw [fi_at, z] at h; exact nomatch h
      exact xc_change (b := true) rfl hi2 I (fun w se lv ri st lo I' => nm_r (nI_1 _) (nm_r (nI_1 i) (I1 (by rw [hfi, e, e2]; rfl) h2 w se lv ri st lo I')))
    · exact nm_r (nI_1 i) (I0 (fun _ => by rw [fi_at] at h; exact h))
theorem sy_127 {post : Int32 → SY → Prop} {J : Int32 → Int32 → (Nat → Int32) → (Nat → Int32) → (Nat → Int32) → (Nat → Int32) → (Nat → Int32) → (Nat → Int32) → Prop} {s i : Nat} {x y z : Bool} (hi : i < 216) (hl : l < 216) (hr : r < 216)
    (K0 : ((bx_in i l r && (x || y || z)) = true → so i = true) → J (nI s) (nI (i + 1)) (ar_B so) (ar_N la) (ar_N lg) (ar_N sg) (ar_N lb) (ar_N yk)) (K : (bx_in i l r && (x || y || z)) = true → so i ≠ true → J (nI (s + 1)) (nI (i + 1)) (ar_B (ar_u so i true)) (ar_N la) (ar_N lg) (ar_N sg) (ar_N lb) (ar_N yk)) : wY_shell_127 post J (nI l) (nI r) (nI s) (nI i) (ar_b x) (ar_b y) (ar_b z) (ar_B so) (ar_N la) (ar_N lg) (ar_N sg) (ar_N lb) (ar_N yk) := by
  have ci : (nI i).toNatClampNeg = i := nI_clamp (by omega)
  have S : so i = false → (bx_in i l r && (x || y || z)) = true → wY_shell_168 post J (nI l) (nI r) (nI s) (nI i) (ar_B so) (ar_N la) (ar_N lg) (ar_N sg) (ar_N lb) (ar_N yk) := fun hs h =>
    ⟨vp_in_nI hi (by decide), nm_r (ar_wT ci) (nm_r (nI_1 s) (nm_r (nI_1 i) (K h (fun z => by rw [hs] at z; exact nomatch z))))⟩
  unfold wY_shell_127
  refine yb_inBox hi hl hr (ar_brb (fun e => nm_r (nI_1 i) (K0 (fun z => by rw [e] at z; exact nomatch z))) (fun e => ⟨vp_in_nI hi (by decide), ar_br i ci (fun h => ?_) (fun h => nm_r (nI_1 i) (K0 (fun _ => h)))⟩))
  refine ar_brb (fun ex => ar_brb (fun ey => ar_brb (fun ez => nm_r (nI_1 i) (K0 (fun z => ?_))) (fun ez => S h ?_)) (fun ey => S h ?_)) (fun ex => S h ?_)
  · rw [e, ex, ey, ez] at z; exact nomatch z
  · rw [e, ex, ey, ez]; rfl
  · rw [e, ex, ey]; rfl
  · rw [e, ex]; rfl
theorem sy_96 {post : Int32 → SY → Prop} {J : Int32 → Int32 → (Nat → Int32) → (Nat → Int32) → (Nat → Int32) → (Nat → Int32) → (Nat → Int32) → (Nat → Int32) → Prop} {s i : Nat} {x y : Bool} (hi : i < 216) (hl : l < 216) (hr : r < 216)
    (K0 : ((bx_in i l r && (x || y || bx_wz i l r)) = true → so i = true) → J (nI s) (nI (i + 1)) (ar_B so) (ar_N la) (ar_N lg) (ar_N sg) (ar_N lb) (ar_N yk)) (K : (bx_in i l r && (x || y || bx_wz i l r)) = true → so i ≠ true → J (nI (s + 1)) (nI (i + 1)) (ar_B (ar_u so i true)) (ar_N la) (ar_N lg) (ar_N sg) (ar_N lb) (ar_N yk)) : wY_shell_96 post J (nI l) (nI r) (nI s) (nI i) (ar_b x) (ar_b y) (ar_B so) (ar_N la) (ar_N lg) (ar_N sg) (ar_N lb) (ar_N yk) := by
  refine ⟨by decide, by decide, pk_eq (i / 36) (l / 36) (fun h => ?_) (fun h => ⟨by decide, by decide, pk_eq (i / 36) (r / 36) (fun h2 => ?_) (fun h2 => ?_) (bx_d36 hi) (bx_d36 hr)⟩) (bx_d36 hi) (bx_d36 hl)⟩
  · have e : bx_wz i l r = true := by simp only [bx_wz, Bool.or_eq_true, decide_eq_true_eq]; omega
    rw [e] at K0 K
    exact sy_127 (z := true) hi hl hr K0 K
  · have e : bx_wz i l r = true := by simp only [bx_wz, Bool.or_eq_true, decide_eq_true_eq]; omega
    rw [e] at K0 K
    exact sy_127 (z := true) hi hl hr K0 K
  · have e : bx_wz i l r = false := by simp only [bx_wz, Bool.or_eq_false_iff, decide_eq_false_iff_not]; omega
    rw [e] at K0 K
    exact sy_127 (z := false) hi hl hr K0 K
theorem sy_53 {post : Int32 → SY → Prop} {J : Int32 → Int32 → (Nat → Int32) → (Nat → Int32) → (Nat → Int32) → (Nat → Int32) → (Nat → Int32) → (Nat → Int32) → Prop} {s i : Nat} {x : Bool} (hi : i < 216) (hl : l < 216) (hr : r < 216)
    (K0 : ((bx_in i l r && (x || bx_wy i l r || bx_wz i l r)) = true → so i = true) → J (nI s) (nI (i + 1)) (ar_B so) (ar_N la) (ar_N lg) (ar_N sg) (ar_N lb) (ar_N yk)) (K : (bx_in i l r && (x || bx_wy i l r || bx_wz i l r)) = true → so i ≠ true → J (nI (s + 1)) (nI (i + 1)) (ar_B (ar_u so i true)) (ar_N la) (ar_N lg) (ar_N sg) (ar_N lb) (ar_N yk)) : wY_shell_53 post J (nI l) (nI r) (nI s) (nI i) (ar_b x) (ar_B so) (ar_N la) (ar_N lg) (ar_N sg) (ar_N lb) (ar_N yk) := by
  refine ⟨by decide, by decide, by decide, by decide, pk_eq (i / 6 % 6) (l / 6 % 6) (fun h => ?_) (fun h => ⟨by decide, by decide, by decide, by decide, pk_eq (i / 6 % 6) (r / 6 % 6) (fun h2 => ?_) (fun h2 => ?_) (bx_q hi) (bx_q hr)⟩) (bx_q hi) (bx_q hl)⟩
  · have e : bx_wy i l r = true := by simp only [bx_wy, Bool.or_eq_true, decide_eq_true_eq]; omega
    rw [e] at K0 K
    exact sy_96 (y := true) hi hl hr K0 K
  · have e : bx_wy i l r = true := by simp only [bx_wy, Bool.or_eq_true, decide_eq_true_eq]; omega
    rw [e] at K0 K
    exact sy_96 (y := true) hi hl hr K0 K
  · have e : bx_wy i l r = false := by simp only [bx_wy, Bool.or_eq_false_iff, decide_eq_false_iff_not]; omega
    rw [e] at K0 K
    exact sy_96 (y := false) hi hl hr K0 K
theorem sy_16 {post : Int32 → SY → Prop} (hl : l < 216) (hr : r < 216) (hf : f = fun j => bx_in j l r && bx_w j l r)
    (K : post (nI (cn_t (fi_g so f true) 216)) (ar_B (fi_so so f true 216), ar_N la, ar_N lg, ar_N sg, ar_N lb, ar_N yk)) :
    ∀ j i, i + j = 216 → ∀ n, j < n → wY_shell_16 post (nI l) (nI r) n (nI (cn_t (fi_g so f true) i)) (nI i) (ar_B (fi_so so f true i)) (ar_N la) (ar_N lg) (ar_N sg) (ar_N lb) (ar_N yk) := by
  intro j
  induction j with
  | zero =>
    intro i hi n hn
    obtain ⟨n, rfl⟩ : ∃ m, n = m + 1 := ⟨n - 1, by omega⟩
    obtain rfl : i = 216 := by omega
    exact br_t (nI_le (a := 216) (b := 216) (by omega) (by omega)) K
  | succ j ih =>
    intro i hi n hn
    obtain ⟨n, rfl⟩ : ∃ m, n = m + 1 := ⟨n - 1, by omega⟩
    have hi2 : i < 216 := by omega
    have hfi : f i = (bx_in i l r && (bx_wx i l r || bx_wy i l r || bx_wz i l r)) := by rw [hf]; rfl
    have I0 : ((bx_in i l r && (bx_wx i l r || bx_wy i l r || bx_wz i l r)) = true → fi_so so f true i i = true) → wY_shell_16 post (nI l) (nI r) n (nI (cn_t (fi_g so f true) i)) (nI (i + 1)) (ar_B (fi_so so f true i)) (ar_N la) (ar_N lg) (ar_N sg) (ar_N lb) (ar_N yk) := fun h => by
      rw [← hfi, fi_at] at h
      have h1 := ih (i + 1) (by omega) n (by omega)
      rw [fi_s0 h, cn_n (fi_g0 h)] at h1
      exact h1
    have I1 : (bx_in i l r && (bx_wx i l r || bx_wy i l r || bx_wz i l r)) = true → fi_so so f true i i ≠ true → wY_shell_16 post (nI l) (nI r) n (nI (cn_t (fi_g so f true) i + 1)) (nI (i + 1)) (ar_B (ar_u (fi_so so f true i) i true)) (ar_N la) (ar_N lg) (ar_N sg) (ar_N lb) (ar_N yk) := fun h h2 => by
      rw [← hfi] at h
      rw [fi_at] at h2
      have h1 := ih (i + 1) (by omega) n (by omega)
      rw [fi_s1 h, cn_s (fi_g1 h h2)] at h1
      exact h1
    refine br_f (nI_ge (a := i) (b := 216) (by omega) (by decide)) ⟨by decide, by decide, pk_eq (i % 6) (l % 6) (fun h => ?_) (fun h => ⟨by decide, by decide, pk_eq (i % 6) (r % 6) (fun h2 => ?_) (fun h2 => ?_) (bx_r hi2) (bx_r hr)⟩) (bx_r hi2) (bx_r hl)⟩
    · have e : bx_wx i l r = true := by simp only [bx_wx, Bool.or_eq_true, decide_eq_true_eq]; omega
      rw [e] at I0 I1
      exact sy_53 (x := true) hi2 hl hr I0 I1
    · have e : bx_wx i l r = true := by simp only [bx_wx, Bool.or_eq_true, decide_eq_true_eq]; omega
      rw [e] at I0 I1
      exact sy_53 (x := true) hi2 hl hr I0 I1
    · have e : bx_wx i l r = false := by simp only [bx_wx, Bool.or_eq_false_iff, decide_eq_false_iff_not]; omega
      rw [e] at I0 I1
      exact sy_53 (x := false) hi2 hl hr I0 I1
end SH
theorem i_vc_shell {k : Nat} {u : SX} {v : SY} (I : i_Rel k u v) (hk : k + 4 ≤ 2048) (v1 : Int32) (v2 : Int32) : wpX_shell (fun r u' => wpY_shell (fun r' v' => r' = r ∧ i_Rel (k + 4) u' v') v v1 v2) u v1 v2 := by
  refine rl_el (P := fun u v => wpX_shell (fun r u' => wpY_shell (fun r' v' => r' = r ∧ i_Rel (k + 4) u' v') v v1 v2) u v1 v2) ?_ I
  intro w so la se lv ri st lo ke sn lg sg lb yk I
  unfold wpX_shell wpY_shell
  dsimp only
  by_cases h : bx_ok v1 v2
  · have h' := h
    obtain ⟨l, r, hl, hr, rfl, rfl, _⟩ := h'
    refine xb_isBox (fun h' => absurd h h') (fun _ => br_f (by decide) ⟨217, ?_⟩)
    have HX := sh_15 (so := so) (la := la) (sn := sn) (ke := ke) (f := fun j => bx_in j l r && bx_w j l r) (post := fun r_1 u' => wpY_badBox (fun r_2 => (r_2 = 0 → ∃ n16, wY_shell_16 (fun r' v' => r' = r_1 ∧ i_Rel (k + 4) u' v') (nI l) (nI r) n16 0 0 (ar_B so) (ar_N la) (ar_N lg) (ar_N sg) (ar_N lb) (ar_N yk)) ∧ (¬ r_2 = 0 → (-1 = r_1 ∧ i_Rel (k + 4) u' (ar_B so, ar_N la, ar_N lg, ar_N sg, ar_N lb, ar_N yk)))) (ar_B so, ar_N la, ar_N lg, ar_N sg, ar_N lb, ar_N yk) (nI l) (nI r)) hl hr rfl (fun w se lv ri st lo I' => ?_) 216 0 rfl 217 (by decide) w se lv ri st lo (by rw [fi_0]; exact I)
    · rw [fi_0] at HX
      exact HX
    · refine yb_badBox (fun h' => absurd h h') (fun _ => br_t rfl ⟨217, ?_⟩)
      have HY := sy_16 (so := so) (la := la) (lg := lg) (sg := sg) (lb := lb) (yk := yk) (f := fun j => bx_in j l r && bx_w j l r) (post := fun r' v' => r' = nI (cn_t (fi_g so (fun j => bx_in j l r && bx_w j l r) true) 216) ∧ i_Rel (k + 4) (nI w, ar_B (fi_so so (fun j => bx_in j l r && bx_w j l r) true 216), ar_N la, ar_B se, ar_N lv, ar_B ri, ar_N st, ar_N lo, ar_N ke, ar_B sn) v') hl hr rfl ⟨rfl, rl_mk I'⟩ 216 0 rfl 217 (by decide)
      rw [fi_0] at HY
      exact HY
  · refine xb_isBox (fun _ => br_t rfl ?_) (fun h' => absurd h' h)
    exact yb_badBox (fun _ => br_f (by decide) ⟨rfl, rl_mk I⟩) (fun h' => absurd h' h)
end
section
/-! the calls that count: lit, dim, shady, and the count of cells under the sky -/
def li_l (lv : Nat → Nat) (c : Nat) : Nat := li_m (lv c) (lv (216 + c))
section CO
variable {so se ri sn f : Nat → Bool} {la lv st lo ke lg sg lb yk : Nat → Nat} {w l r : Nat}
theorem xl_l {post : Int32 → Prop} {c : Nat} (B : lf_B lv) (hc : c < 216) (P : post (nI (li_l lv c))) : wpX_light post (nI w, ar_B so, ar_N la, ar_B se, ar_N lv, ar_B ri, ar_N st, ar_N lo, ar_N ke, ar_B sn) (nI c) :=
  xl_light hc (B c (by omega)) (B (216 + c) (by omega)) P
theorem yl_l {post : Int32 → Prop} {c : Nat} (B : lf_B lv) (h1 : ∀ c, c < 216 → lg c = lv c) (h2 : ∀ c, c < 216 → sg c = lv (216 + c)) (hc : c < 216) (P : post (nI (li_l lv c))) : wpY_light post (ar_B so, ar_N la, ar_N lg, ar_N sg, ar_N lb, ar_N yk) (nI c) := by
  refine yl_light hc (by rw [h1 c hc]; exact B c (by omega)) (by rw [h2 c hc]; exact B (216 + c) (by omega)) ?_
  rw [h1 c hc, h2 c hc]; exact P
theorem co_f {a b : Bool} (h : a = false) : (a && b) = false := by rw [h, Bool.false_and]
theorem co_g {a b : Bool} (h : b = false) : (a && b) = false := by rw [h, Bool.and_false]
theorem co_t {a b : Bool} (h : a = true) (h2 : b = true) : (a && b) = true := by rw [h, h2, Bool.true_and]
theorem co_nt {a : Bool} (h : a = true) : (!a) = false := by rw [h]; rfl
theorem co_nf {a : Bool} (h : a = false) : (!a) = true := by rw [h]; rfl
theorem co_X16 {post : Int32 → Prop} {x3 : Int32} (B : lf_B lv) (hl : l < 216) (hr : r < 216) (hf : f = fun j => bx_in j l r && !decide (nI (li_l lv j) < x3)) (K : post (nI (cn_t f 216))) :
    ∀ j i, i + j = 216 → ∀ n, j < n → wX_lit_16 post (nI l) (nI r) x3 (nI w) (ar_B so) (ar_N la) (ar_B se) (ar_N lv) (ar_B ri) (ar_N st) (ar_N lo) (ar_N ke) (ar_B sn) n (nI (cn_t f i)) (nI i) := by
  intro j
  induction j with
  | zero =>
    intro i hi n hn
    obtain ⟨n, rfl⟩ : ∃ m, n = m + 1 := ⟨n - 1, by omega⟩
    obtain rfl : i = 216 := by omega
    exact br_t (nI_le (a := 216) (b := 216) (by omega) (by omega)) K
  | succ j ih =>
    intro i hi n hn
    obtain ⟨n, rfl⟩ : ∃ m, n = m + 1 := ⟨n - 1, by omega⟩
    have hi2 : i < 216 := by omega
    have I0 : f i = false → wX_lit_16 post (nI l) (nI r) x3 (nI w) (ar_B so) (ar_N la) (ar_B se) (ar_N lv) (ar_B ri) (ar_N st) (ar_N lo) (ar_N ke) (ar_B sn) n (nI (cn_t f i)) (nI (i + 1)) := fun h => by
      have h1 := ih (i + 1) (by omega) n (by omega)
      rw [cn_n h] at h1; exact h1
    have I1 : f i = true → wX_lit_16 post (nI l) (nI r) x3 (nI w) (ar_B so) (ar_N la) (ar_B se) (ar_N lv) (ar_B ri) (ar_N st) (ar_N lo) (ar_N ke) (ar_B sn) n (nI (cn_t f i + 1)) (nI (i + 1)) := fun h => by
      have h1 := ih (i + 1) (by omega) n (by omega)
      rw [cn_s h] at h1; exact h1
    have hfi : f i = (bx_in i l r && !decide (nI (li_l lv i) < x3)) := by rw [hf]
    exact br_f (nI_ge (a := i) (b := 216) (by omega) (by decide)) (xb_inBox hi2 hl hr (ar_brb (fun e => nm_r (Int32.add_zero _) (nm_r (nI_1 i) (I0 (hfi.trans (co_f e))))) (fun e => xl_l B hi2 (br_c (fun h => nm_r (Int32.add_zero _) (nm_r (nI_1 i) (I0 (hfi.trans (co_g (co_nt (decide_eq_true h))))))) (fun h => nm_r (nI_1 _) (nm_r (nI_1 i) (I1 (hfi.trans (co_t e (co_nf (decide_eq_false h)))))))))))
theorem co_Y21 {post : Int32 → SY → Prop} {x3 : Int32} (B : lf_B lv) (g1 : ∀ c, c < 216 → lg c = lv c) (g2 : ∀ c, c < 216 → sg c = lv (216 + c)) (hl : l < 216) (hr : r < 216) (hf : f = fun j => bx_in j l r && !decide (nI (li_l lv j) < x3)) (K : post (nI (cn_t f 216)) (ar_B so, ar_N la, ar_N lg, ar_N sg, ar_N lb, ar_N yk)) :
    ∀ j i, i + j = 216 → ∀ n, j < n → wY_lit_21 post (nI l) (nI r) x3 (ar_B so) (ar_N la) (ar_N lg) (ar_N sg) (ar_N lb) (ar_N yk) n (nI (cn_t f i)) (nI i) := by
  intro j
  induction j with
  | zero =>
    intro i hi n hn
    obtain ⟨n, rfl⟩ : ∃ m, n = m + 1 := ⟨n - 1, by omega⟩
    obtain rfl : i = 216 := by omega
    exact br_t (nI_le (a := 216) (b := 216) (by omega) (by omega)) K
  | succ j ih =>
    intro i hi n hn
    obtain ⟨n, rfl⟩ : ∃ m, n = m + 1 := ⟨n - 1, by omega⟩
    have hi2 : i < 216 := by omega
    have I0 : f i = false → wY_lit_21 post (nI l) (nI r) x3 (ar_B so) (ar_N la) (ar_N lg) (ar_N sg) (ar_N lb) (ar_N yk) n (nI (cn_t f i)) (nI (i + 1)) := fun h => by
      have h1 := ih (i + 1) (by omega) n (by omega)
      rw [cn_n h] at h1; exact h1
    have I1 : f i = true → wY_lit_21 post (nI l) (nI r) x3 (ar_B so) (ar_N la) (ar_N lg) (ar_N sg) (ar_N lb) (ar_N yk) n (nI (cn_t f i + 1)) (nI (i + 1)) := fun h => by
      have h1 := ih (i + 1) (by omega) n (by omega)
      rw [cn_s h] at h1; exact h1
    have hfi : f i = (bx_in i l r && !decide (nI (li_l lv i) < x3)) := by rw [hf]
    exact br_f (nI_ge (a := i) (b := 216) (by omega) (by decide)) (yb_inBox hi2 hl hr (ar_brb (fun e => nm_r (nI_1 i) (I0 (hfi.trans (co_f e)))) (fun e => yl_l B g1 g2 hi2 (br_c (fun h => nm_r (nI_1 i) (I0 (hfi.trans (co_g (co_nt (decide_eq_true h)))))) (fun h => nm_r (nI_1 _) (nm_r (nI_1 i) (I1 (hfi.trans (co_t e (co_nf (decide_eq_false h)))))))))))
theorem co_Xd {post : Int32 → Prop} {x1 : Int32} (B : lf_B lv) (hf : f = fun j => !so j && decide (nI (li_l lv j) = x1)) (K : post (nI (cn_t f 216))) :
    ∀ j i, i + j = 216 → ∀ n, j < n → wX_dim_16 post x1 (nI w) (ar_B so) (ar_N la) (ar_B se) (ar_N lv) (ar_B ri) (ar_N st) (ar_N lo) (ar_N ke) (ar_B sn) n (nI (cn_t f i)) (nI i) := by
  intro j
  induction j with
  | zero =>
    intro i hi n hn
    obtain ⟨n, rfl⟩ : ∃ m, n = m + 1 := ⟨n - 1, by omega⟩
    obtain rfl : i = 216 := by omega
    exact br_t (nI_le (a := 216) (b := 216) (by omega) (by omega)) K
  | succ j ih =>
    intro i hi n hn
    obtain ⟨n, rfl⟩ : ∃ m, n = m + 1 := ⟨n - 1, by omega⟩
    have hi2 : i < 216 := by omega
    have I0 : f i = false → wX_dim_16 post x1 (nI w) (ar_B so) (ar_N la) (ar_B se) (ar_N lv) (ar_B ri) (ar_N st) (ar_N lo) (ar_N ke) (ar_B sn) n (nI (cn_t f i)) (nI (i + 1)) := fun h => by
      have h1 := ih (i + 1) (by omega) n (by omega)
      rw [cn_n h] at h1; exact h1
    have I1 : f i = true → wX_dim_16 post x1 (nI w) (ar_B so) (ar_N la) (ar_B se) (ar_N lv) (ar_B ri) (ar_N st) (ar_N lo) (ar_N ke) (ar_B sn) n (nI (cn_t f i + 1)) (nI (i + 1)) := fun h => by
      have h1 := ih (i + 1) (by omega) n (by omega)
      rw [cn_s h] at h1; exact h1
    have hfi : f i = (!so i && decide (nI (li_l lv i) = x1)) := by rw [hf]
    exact br_f (nI_ge (a := i) (b := 216) (by omega) (by decide)) ⟨vp_in_nI hi2 (by decide), ar_br i (nI_clamp (by omega)) (fun e => xl_l B hi2 (br_c (fun h => nm_r (nI_1 _) (nm_r (nI_1 i) (I1 (hfi.trans (co_t (co_nf e) (decide_eq_true h)))))) (fun h => nm_r (Int32.add_zero _) (nm_r (nI_1 i) (I0 (hfi.trans (co_g (decide_eq_false h)))))))) (fun e => nm_r (Int32.add_zero _) (nm_r (nI_1 i) (I0 (hfi.trans (co_f (co_nt e))))))⟩
theorem co_Yd {post : Int32 → SY → Prop} {x1 : Int32} (B : lf_B lv) (g1 : ∀ c, c < 216 → lg c = lv c) (g2 : ∀ c, c < 216 → sg c = lv (216 + c)) (hf : f = fun j => !so j && decide (nI (li_l lv j) = x1)) (K : post (nI (cn_t f 216)) (ar_B so, ar_N la, ar_N lg, ar_N sg, ar_N lb, ar_N yk)) :
    ∀ j i, i + j = 216 → ∀ n, j < n → wY_dim_20 post x1 (ar_B so) (ar_N la) (ar_N lg) (ar_N sg) (ar_N lb) (ar_N yk) n (nI (cn_t f i)) (nI i) := by
  intro j
  induction j with
  | zero =>
    intro i hi n hn
    obtain ⟨n, rfl⟩ : ∃ m, n = m + 1 := ⟨n - 1, by omega⟩
    obtain rfl : i = 216 := by omega
    exact br_t (nI_le (a := 216) (b := 216) (by omega) (by omega)) K
  | succ j ih =>
    intro i hi n hn
    obtain ⟨n, rfl⟩ : ∃ m, n = m + 1 := ⟨n - 1, by omega⟩
    have hi2 : i < 216 := by omega
    have I0 : f i = false → wY_dim_20 post x1 (ar_B so) (ar_N la) (ar_N lg) (ar_N sg) (ar_N lb) (ar_N yk) n (nI (cn_t f i)) (nI (i + 1)) := fun h => by
      have h1 := ih (i + 1) (by omega) n (by omega)
      rw [cn_n h] at h1; exact h1
    have I1 : f i = true → wY_dim_20 post x1 (ar_B so) (ar_N la) (ar_N lg) (ar_N sg) (ar_N lb) (ar_N yk) n (nI (cn_t f i + 1)) (nI (i + 1)) := fun h => by
      have h1 := ih (i + 1) (by omega) n (by omega)
      rw [cn_s h] at h1; exact h1
    have hfi : f i = (!so i && decide (nI (li_l lv i) = x1)) := by rw [hf]
    exact br_f (nI_ge (a := i) (b := 216) (by omega) (by decide)) ⟨vp_in_nI hi2 (by decide), ar_br i (nI_clamp (by omega)) (fun e => yl_l B g1 g2 hi2 (br_c (fun h => nm_r (nI_1 _) (nm_r (nI_1 i) (I1 (hfi.trans (co_t (co_nf e) (decide_eq_true h)))))) (fun h => nm_r (nI_1 i) (I0 (hfi.trans (co_g (decide_eq_false h))))))) (fun e => nm_r (nI_1 i) (I0 (hfi.trans (co_f (co_nt e)))))⟩
theorem co_Xs {post : Int32 → Prop} {x1 : Int32} (B : lf_B lv) (hf : f = fun j => decide (36 ≤ j) && (!so j && (so (j - 36) && !decide (x1 < nI (li_l lv j))))) (K : post (nI (cn_t f 216))) :
    ∀ j i, i + j = 216 → 36 ≤ i → ∀ n, j < n → wX_shady_5 post x1 (nI w) (ar_B so) (ar_N la) (ar_B se) (ar_N lv) (ar_B ri) (ar_N st) (ar_N lo) (ar_N ke) (ar_B sn) n (nI (cn_t f i)) (nI i) := by
  intro j
  induction j with
  | zero =>
    intro i hi h36 n hn
    obtain ⟨n, rfl⟩ : ∃ m, n = m + 1 := ⟨n - 1, by omega⟩
    obtain rfl : i = 216 := by omega
    exact br_t (nI_le (a := 216) (b := 216) (by omega) (by omega)) K
  | succ j ih =>
    intro i hi h36 n hn
    obtain ⟨n, rfl⟩ : ∃ m, n = m + 1 := ⟨n - 1, by omega⟩
    have hi2 : i < 216 := by omega
    have I0 : f i = false → wX_shady_5 post x1 (nI w) (ar_B so) (ar_N la) (ar_B se) (ar_N lv) (ar_B ri) (ar_N st) (ar_N lo) (ar_N ke) (ar_B sn) n (nI (cn_t f i)) (nI (i + 1)) := fun h => by
      have h1 := ih (i + 1) (by omega) (by omega) n (by omega)
      rw [cn_n h] at h1; exact h1
    have I1 : f i = true → wX_shady_5 post x1 (nI w) (ar_B so) (ar_N la) (ar_B se) (ar_N lv) (ar_B ri) (ar_N st) (ar_N lo) (ar_N ke) (ar_B sn) n (nI (cn_t f i + 1)) (nI (i + 1)) := fun h => by
      have h1 := ih (i + 1) (by omega) (by omega) n (by omega)
      rw [cn_s h] at h1; exact h1
    have hfi : f i = (decide (36 ≤ i) && (!so i && (so (i - 36) && !decide (x1 < nI (li_l lv i))))) := by rw [hf]
    have e36 : nI i - 36 = nI (i - 36) := pk_sub (b := 36) h36
    refine br_f (nI_ge (a := i) (b := 216) (by omega) (by decide)) ?_
    rw [e36]
    exact ⟨vp_in_nI hi2 (by decide), ar_br i (nI_clamp (by omega)) (fun e => ⟨vp_in_nI (by omega) (by decide), ar_br (i - 36) (nI_clamp (by omega)) (fun e2 => nm_r (Int32.add_zero _) (nm_r (nI_1 i) (I0 (hfi.trans (co_g (co_g (co_f e2))))))) (fun e2 => xl_l B hi2 (br_c (fun h => nm_r (Int32.add_zero _) (nm_r (nI_1 i) (I0 (hfi.trans (co_g (co_g (co_g (co_nt (decide_eq_true h))))))))) (fun h => nm_r (nI_1 _) (nm_r (nI_1 i) (I1 (hfi.trans (co_t (decide_eq_true h36) (co_t (co_nf e) (co_t e2 (co_nf (decide_eq_false h)))))))))))⟩) (fun e => nm_r (Int32.add_zero _) (nm_r (nI_1 i) (I0 (hfi.trans (co_g (co_f (co_nt e)))))))⟩
theorem co_Ys {post : Int32 → SY → Prop} {x1 : Int32} (B : lf_B lv) (g1 : ∀ c, c < 216 → lg c = lv c) (g2 : ∀ c, c < 216 → sg c = lv (216 + c)) (hf : f = fun j => decide (36 ≤ j) && (!so j && (so (j - 36) && !decide (x1 < nI (li_l lv j))))) (K : post (nI (cn_t f 216)) (ar_B so, ar_N la, ar_N lg, ar_N sg, ar_N lb, ar_N yk)) :
    ∀ j i, i + j = 216 → 36 ≤ i → ∀ n, j < n → wY_shady_9 post x1 (ar_B so) (ar_N la) (ar_N lg) (ar_N sg) (ar_N lb) (ar_N yk) n (nI (cn_t f i)) (nI i) := by
  intro j
  induction j with
  | zero =>
    intro i hi h36 n hn
    obtain ⟨n, rfl⟩ : ∃ m, n = m + 1 := ⟨n - 1, by omega⟩
    obtain rfl : i = 216 := by omega
    exact br_t (nI_le (a := 216) (b := 216) (by omega) (by omega)) K
  | succ j ih =>
    intro i hi h36 n hn
    obtain ⟨n, rfl⟩ : ∃ m, n = m + 1 := ⟨n - 1, by omega⟩
    have hi2 : i < 216 := by omega
    have I0 : f i = false → wY_shady_9 post x1 (ar_B so) (ar_N la) (ar_N lg) (ar_N sg) (ar_N lb) (ar_N yk) n (nI (cn_t f i)) (nI (i + 1)) := fun h => by
      have h1 := ih (i + 1) (by omega) (by omega) n (by omega)
      rw [cn_n h] at h1; exact h1
    have I1 : f i = true → wY_shady_9 post x1 (ar_B so) (ar_N la) (ar_N lg) (ar_N sg) (ar_N lb) (ar_N yk) n (nI (cn_t f i + 1)) (nI (i + 1)) := fun h => by
      have h1 := ih (i + 1) (by omega) (by omega) n (by omega)
      rw [cn_s h] at h1; exact h1
    have hfi : f i = (decide (36 ≤ i) && (!so i && (so (i - 36) && !decide (x1 < nI (li_l lv i))))) := by rw [hf]
    have e36 : nI i - 36 = nI (i - 36) := pk_sub (b := 36) h36
    refine br_f (nI_ge (a := i) (b := 216) (by omega) (by decide)) ?_
    rw [e36]
    exact ⟨vp_in_nI hi2 (by decide), ar_br i (nI_clamp (by omega)) (fun e => ⟨vp_in_nI (by omega) (by decide), ar_br (i - 36) (nI_clamp (by omega)) (fun e2 => nm_r (nI_1 i) (I0 (hfi.trans (co_g (co_g (co_f e2)))))) (fun e2 => yl_l B g1 g2 hi2 (br_c (fun h => nm_r (nI_1 i) (I0 (hfi.trans (co_g (co_g (co_g (co_nt (decide_eq_true h)))))))) (fun h => nm_r (nI_1 _) (nm_r (nI_1 i) (I1 (hfi.trans (co_t (decide_eq_true h36) (co_t (co_nf e) (co_t e2 (co_nf (decide_eq_false h)))))))))))⟩) (fun e => nm_r (nI_1 i) (I0 (hfi.trans (co_g (co_f (co_nt e))))))⟩
theorem co_36 (h : ∀ j, j < 36 → f j = false) : cn_t f 36 = 0 := by
  rw [cn_congr (g := fun _ => false) 36 h]; rfl
theorem co_Xo {post : Int32 → Prop} (K : post (nI (cn_t se 216))) :
    ∀ j i, i + j = 216 → ∀ n, j < n → wX_open_4 post (nI w) (ar_B so) (ar_N la) (ar_B se) (ar_N lv) (ar_B ri) (ar_N st) (ar_N lo) (ar_N ke) (ar_B sn) n (nI (cn_t se i)) (nI i) := by
  intro j
  induction j with
  | zero =>
    intro i hi n hn
    obtain ⟨n, rfl⟩ : ∃ m, n = m + 1 := ⟨n - 1, by omega⟩
    obtain rfl : i = 216 := by omega
    exact br_t (nI_le (a := 216) (b := 216) (by omega) (by omega)) K
  | succ j ih =>
    intro i hi n hn
    obtain ⟨n, rfl⟩ : ∃ m, n = m + 1 := ⟨n - 1, by omega⟩
    have hi2 : i < 216 := by omega
    refine br_f (nI_ge (a := i) (b := 216) (by omega) (by decide)) ⟨vp_in_nI hi2 (by decide), ar_br i (nI_clamp (by omega)) (fun e => nm_r (Int32.add_zero _) (nm_r (nI_1 i) ?_)) (fun e => nm_r (nI_1 _) (nm_r (nI_1 i) ?_))⟩
    · have h1 := ih (i + 1) (by omega) n (by omega)
      rw [cn_n e] at h1; exact h1
    · have h1 := ih (i + 1) (by omega) n (by omega)
      rw [cn_s e] at h1; exact h1
theorem co_Yo {post : Int32 → Prop} (hSe : ∀ x, x < 216 → lf_Se so se x) (K : post (nI (cn_t se 216))) :
    ∀ j i, i + j = 216 → ∀ n, j < n → wY_open_4 post (ar_B so) (ar_N la) (ar_N lg) (ar_N sg) (ar_N lb) (ar_N yk) n (nI (cn_t se i)) (nI i) := by
  intro j
  induction j with
  | zero =>
    intro i hi n hn
    obtain ⟨n, rfl⟩ : ∃ m, n = m + 1 := ⟨n - 1, by omega⟩
    obtain rfl : i = 216 := by omega
    exact br_t (nI_le (a := 216) (b := 216) (by omega) (by omega)) K
  | succ j ih =>
    intro i hi n hn
    obtain ⟨n, rfl⟩ : ∃ m, n = m + 1 := ⟨n - 1, by omega⟩
    have hi2 : i < 216 := by omega
    refine br_f (nI_ge (a := i) (b := 216) (by omega) (by decide)) (ys_sees hSe hi2 (ar_brb (fun e => nm_r (nI_1 i) ?_) (fun e => nm_r (nI_1 _) (nm_r (nI_1 i) ?_))))
    · have h1 := ih (i + 1) (by omega) n (by omega)
      rw [cn_n e] at h1; exact h1
    · have h1 := ih (i + 1) (by omega) n (by omega)
      rw [cn_s e] at h1; exact h1
end CO
theorem i_vc_lit {k : Nat} {u : SX} {v : SY} (I : i_Rel k u v) (hk : k + 4 ≤ 2048) (v1 : Int32) (v2 : Int32) (v3 : Int32) : wpX_lit (fun r => wpY_lit (fun r' v' => r' = r ∧ i_Rel (k + 4) u v') v v1 v2 v3) u v1 v2 v3 := by
  refine rl_el (P := fun u v => wpX_lit (fun r => wpY_lit (fun r' v' => r' = r ∧ i_Rel (k + 4) u v') v v1 v2 v3) u v1 v2 v3) ?_ I
  intro w so la se lv ri st lo ke sn lg sg lb yk I
  unfold wpX_lit wpY_lit
  dsimp only
  have B := I.2.2.1
  by_cases h : bx_ok v1 v2
  · have h' := h
    obtain ⟨l, r, hl, hr, rfl, rfl, _⟩ := h'
    refine xb_isBox (fun h' => absurd h h') (fun _ => br_f (by decide) ⟨217, ?_⟩)
    refine co_X16 B hl hr rfl ?_ 216 0 rfl 217 (by decide)
    refine yb_badBox (fun h' => absurd h h') (fun _ => br_t rfl ?_)
    refine yf_shine I (fun lg sg g1 g2 => ⟨217, ?_⟩)
    exact co_Y21 B g1 g2 hl hr rfl ⟨rfl, rl_mk I⟩ 216 0 rfl 217 (by decide)
  · refine xb_isBox (fun _ => br_t rfl ?_) (fun h' => absurd h' h)
    exact yb_badBox (fun _ => br_f (by decide) ⟨rfl, rl_mk I⟩) (fun h' => absurd h' h)
theorem i_vc_dim {k : Nat} {u : SX} {v : SY} (I : i_Rel k u v) (hk : k + 4 ≤ 2048) (v1 : Int32) : wpX_dim (fun r => wpY_dim (fun r' v' => r' = r ∧ i_Rel (k + 4) u v') v v1) u v1 := by
  refine rl_el (P := fun u v => wpX_dim (fun r => wpY_dim (fun r' v' => r' = r ∧ i_Rel (k + 4) u v') v v1) u v1) ?_ I
  intro w so la se lv ri st lo ke sn lg sg lb yk I
  unfold wpX_dim wpY_dim
  dsimp only
  have B := I.2.2.1
  refine br_c (fun h => br_t h ⟨rfl, rl_mk I⟩) (fun h => br_c (fun h2 => ⟨217, ?_⟩) (fun h2 => br_f h (br_f h2 ⟨rfl, rl_mk I⟩)))
  refine co_Xd B rfl ?_ 216 0 rfl 217 (by decide)
  refine br_f h (br_t h2 ?_)
  refine yf_shine I (fun lg sg g1 g2 => ⟨217, ?_⟩)
  exact co_Yd B g1 g2 rfl ⟨rfl, rl_mk I⟩ 216 0 rfl 217 (by decide)
theorem i_vc_shady {k : Nat} {u : SX} {v : SY} (I : i_Rel k u v) (hk : k + 4 ≤ 2048) (v1 : Int32) : wpX_shady (fun r => wpY_shady (fun r' v' => r' = r ∧ i_Rel (k + 4) u v') v v1) u v1 := by
  refine rl_el (P := fun u v => wpX_shady (fun r => wpY_shady (fun r' v' => r' = r ∧ i_Rel (k + 4) u v') v v1) u v1) ?_ I
  intro w so la se lv ri st lo ke sn lg sg lb yk I
  unfold wpX_shady wpY_shady
  dsimp only
  have B := I.2.2.1
  have Z : cn_t (fun j => decide (36 ≤ j) && (!so j && (so (j - 36) && !decide (v1 < nI (li_l lv j))))) 36 = 0 := co_36 (fun j hj => co_f (decide_eq_false (by omega)))
  refine ⟨181, ?_⟩
  have HX := co_Xs (w := w) (so := so) (la := la) (se := se) (ri := ri) (st := st) (lo := lo) (ke := ke) (sn := sn) (x1 := v1) (post := fun r => wpY_shine (fun u_1 => ∃ n9, wY_shady_9 (fun r' v' => r' = r ∧ i_Rel (k + 4) (nI w, ar_B so, ar_N la, ar_B se, ar_N lv, ar_B ri, ar_N st, ar_N lo, ar_N ke, ar_B sn) v') v1 u_1.1 u_1.2.1 u_1.2.2.1 u_1.2.2.2.1 u_1.2.2.2.2.1 u_1.2.2.2.2.2 n9 0 36) (ar_B so, ar_N la, ar_N lg, ar_N sg, ar_N lb, ar_N yk)) B rfl ?_ 180 36 rfl (by decide) 181 (by decide)
  · rw [Z] at HX; exact HX
  · refine yf_shine I (fun lg sg g1 g2 => ⟨181, ?_⟩)
    have HY := co_Ys (so := so) (la := la) (lg := lg) (sg := sg) (lb := lb) (yk := yk) (x1 := v1) (post := fun r' v' => r' = nI (cn_t (fun j => decide (36 ≤ j) && (!so j && (so (j - 36) && !decide (v1 < nI (li_l lv j))))) 216) ∧ i_Rel (k + 4) (nI w, ar_B so, ar_N la, ar_B se, ar_N lv, ar_B ri, ar_N st, ar_N lo, ar_N ke, ar_B sn) v') B g1 g2 rfl ⟨rfl, rl_mk I⟩ 180 36 rfl (by decide) 181 (by decide)
    rw [Z] at HY; exact HY
theorem i_vc_open {k : Nat} {u : SX} {v : SY} (I : i_Rel k u v) (hk : k + 4 ≤ 2048) : wpX_open (fun r => wpY_open (fun r' => r' = r ∧ i_Rel (k + 4) u v) v) u := by
  refine rl_el (P := fun u v => wpX_open (fun r => wpY_open (fun r' => r' = r ∧ i_Rel (k + 4) u v) v) u) ?_ I
  intro w so la se lv ri st lo ke sn lg sg lb yk I
  unfold wpX_open wpY_open
  dsimp only
  exact ⟨217, co_Xo ⟨217, co_Yo I.2.1 ⟨rfl, rl_mk I⟩ 216 0 rfl 217 (by decide)⟩ 216 0 rfl 217 (by decide)⟩
end
section
/-! darkest, faces, serves -/
theorem li_12 {lv : Nat → Nat} (B : lf_B lv) {c : Nat} (hc : c < 216) : li_l lv c ≤ 12 := by
  have h1 := B c (by omega)
  have h2 := B (216 + c) (by omega)
  unfold li_l li_m
  split <;> omega
section DF
variable {so se ri sn f : Nat → Bool} {la lv st lo ke lg sg lb yk : Nat → Nat} {w l r : Nat}
theorem dk_loop (B : lf_B lv) : ∀ j i, i + j = 216 → ∀ x1 : Int32, (x1 = -1 ∨ ∃ c, c < 216 ∧ x1 = nI c) →
    ∃ r : Int32, (∀ n, j < n → ∀ post : Int32 → Prop, post r → wX_darkest_4 post (nI w) (ar_B so) (ar_N la) (ar_B se) (ar_N lv) (ar_B ri) (ar_N st) (ar_N lo) (ar_N ke) (ar_B sn) n x1 (nI i)) ∧ (∀ lg sg, (∀ c, c < 216 → lg c = lv c) → (∀ c, c < 216 → sg c = lv (216 + c)) → ∀ n, j < n → ∀ post : Int32 → SY → Prop, post r (ar_B so, ar_N la, ar_N lg, ar_N sg, ar_N lb, ar_N yk) → wY_darkest_8 post (ar_B so) (ar_N la) (ar_N lg) (ar_N sg) (ar_N lb) (ar_N yk) n x1 (nI i)) := by
  intro j
  induction j with
  | zero =>
    intro i hi x1 hx
    have hle : (216 : Int32) ≤ nI i := nI_le (a := 216) (b := i) (by omega) (by omega)
    refine ⟨x1, fun n hn post hp => ?_, fun lg sg g1 g2 n hn post hp => ?_⟩
    · obtain ⟨n, rfl⟩ : ∃ m, n = m + 1 := ⟨n - 1, by omega⟩
      exact br_t hle hp
    · obtain ⟨n, rfl⟩ : ∃ m, n = m + 1 := ⟨n - 1, by omega⟩
      exact br_t hle hp
  | succ j ih =>
    intro i hi x1 hx
    have hi2 : i < 216 := by omega
    have hle : ¬ (216 : Int32) ≤ nI i := nI_ge (a := i) (b := 216) (by omega) (by decide)
    have ii : vp_in (nI i) 216 := vp_in_nI hi2 (by decide)
    have ci : (nI i).toNatClampNeg = i := nI_clamp (by omega)
    cases hs : so i
    · rcases hx with rfl | ⟨c, hc, rfl⟩
      · obtain ⟨r, hX, hY⟩ := ih (i + 1) (by omega) (nI i) (Or.inr ⟨i, hi2, rfl⟩)
        refine ⟨r, fun n hn post hp => ?_, fun lg sg g1 g2 n hn post hp => ?_⟩
        · obtain ⟨n, rfl⟩ : ∃ m, n = m + 1 := ⟨n - 1, by omega⟩
          exact br_f hle ⟨ii, br_t (by rw [ci]; exact ar_Bf hs) (br_t rfl (nm_r (nI_1 i) (hX n (by omega) post hp)))⟩
        · obtain ⟨n, rfl⟩ : ∃ m, n = m + 1 := ⟨n - 1, by omega⟩
          exact br_f hle ⟨ii, br_t (by rw [ci]; exact ar_Bf hs) (br_t (by decide) (nm_r (nI_1 i) (hY lg sg g1 g2 n (by omega) post hp)))⟩
      · by_cases hcmp : nI (li_l lv c) ≤ nI (li_l lv i)
        · obtain ⟨r, hX, hY⟩ := ih (i + 1) (by omega) (nI c) (Or.inr ⟨c, hc, rfl⟩)
          refine ⟨r, fun n hn post hp => ?_, fun lg sg g1 g2 n hn post hp => ?_⟩
          · obtain ⟨n, rfl⟩ : ∃ m, n = m + 1 := ⟨n - 1, by omega⟩
            exact br_f hle ⟨ii, br_t (by rw [ci]; exact ar_Bf hs) (br_f (ar_m1 (by omega)) (xl_l B hi2 (xl_l B hc (br_t hcmp (nm_r (nI_1 i) (hX n (by omega) post hp))))))⟩
          · obtain ⟨n, rfl⟩ : ∃ m, n = m + 1 := ⟨n - 1, by omega⟩
            exact br_f hle ⟨ii, br_t (by rw [ci]; exact ar_Bf hs) (br_f (nI_pos (by omega)) (yl_l B g1 g2 hi2 (yl_l B g1 g2 hc (br_t hcmp (nm_r (nI_1 i) (hY lg sg g1 g2 n (by omega) post hp))))))⟩
        · obtain ⟨r, hX, hY⟩ := ih (i + 1) (by omega) (nI i) (Or.inr ⟨i, hi2, rfl⟩)
          refine ⟨r, fun n hn post hp => ?_, fun lg sg g1 g2 n hn post hp => ?_⟩
          · obtain ⟨n, rfl⟩ : ∃ m, n = m + 1 := ⟨n - 1, by omega⟩
            exact br_f hle ⟨ii, br_t (by rw [ci]; exact ar_Bf hs) (br_f (ar_m1 (by omega)) (xl_l B hi2 (xl_l B hc (br_f hcmp (nm_r (nI_1 i) (hX n (by omega) post hp))))))⟩
          · obtain ⟨n, rfl⟩ : ∃ m, n = m + 1 := ⟨n - 1, by omega⟩
            exact br_f hle ⟨ii, br_t (by rw [ci]; exact ar_Bf hs) (br_f (nI_pos (by omega)) (yl_l B g1 g2 hi2 (yl_l B g1 g2 hc (br_f hcmp (nm_r (nI_1 i) (hY lg sg g1 g2 n (by omega) post hp))))))⟩
    · obtain ⟨r, hX, hY⟩ := ih (i + 1) (by omega) x1 hx
      refine ⟨r, fun n hn post hp => ?_, fun lg sg g1 g2 n hn post hp => ?_⟩
      · obtain ⟨n, rfl⟩ : ∃ m, n = m + 1 := ⟨n - 1, by omega⟩
        exact br_f hle ⟨ii, br_f (by rw [ci]; exact ar_Bt hs) (nm_r (nI_1 i) (hX n (by omega) post hp))⟩
      · obtain ⟨n, rfl⟩ : ∃ m, n = m + 1 := ⟨n - 1, by omega⟩
        exact br_f hle ⟨ii, br_f (by rw [ci]; exact ar_Bt hs) (nm_r (nI_1 i) (hY lg sg g1 g2 n (by omega) post hp))⟩
/-- a free side -/
def fa_o (so : Nat → Bool) (o : Option Nat) : Bool := match o with
  | none => true
  | some d => !so d
theorem fa_on {o : Option Nat} (h : o = none) : fa_o so o = true := by rw [h]; rfl
theorem fa_os {o : Option Nat} {d : Nat} (h : o = some d) : fa_o so o = !so d := by rw [h]; rfl
def fa_X (so : Nat → Bool) : Nat → Bool := fun k => so (k / 6) && fa_o so (ge_nb (k / 6) (k % 6))
def fa_Y (so : Nat → Bool) : Nat → Bool := fun k => so (k / 6) && fa_o so (ge_nb (k / 6) (ge_fl (k % 6)))
theorem fa_Xe {c t : Nat} (ht : t < 6) : fa_X so (6 * c + t) = (so c && fa_o so (ge_nb c t)) := by
  unfold fa_X
  rw [show (6 * c + t) / 6 = c by omega, show (6 * c + t) % 6 = t by omega]
theorem fa_Ye {c t : Nat} (ht : t < 6) : fa_Y so (6 * c + t) = (so c && fa_o so (ge_nb c (ge_fl t))) := by
  unfold fa_Y
  rw [show (6 * c + t) / 6 = c by omega, show (6 * c + t) % 6 = t by omega]
theorem fa_sum (g : Nat → Bool) (n : Nat) : cn_t g (n + 6) = cn_t g n + (if g (n + 0) = true then 1 else 0) + (if g (n + 1) = true then 1 else 0) + (if g (n + 2) = true then 1 else 0) + (if g (n + 3) = true then 1 else 0) + (if g (n + 4) = true then 1 else 0) + (if g (n + 5) = true then 1 else 0) := rfl
theorem fa_eq (so : Nat → Bool) : ∀ c, cn_t (fa_X so) (6 * c) = cn_t (fa_Y so) (6 * c)
  | 0 => rfl
  | c + 1 => by
    rw [show 6 * (c + 1) = 6 * c + 6 by omega, fa_sum, fa_sum, fa_eq so c]
    rw [fa_Xe (by decide), fa_Xe (by decide), fa_Xe (by decide), fa_Xe (by decide), fa_Xe (by decide), fa_Xe (by decide)]
    rw [fa_Ye (by decide), fa_Ye (by decide), fa_Ye (by decide), fa_Ye (by decide), fa_Ye (by decide), fa_Ye (by decide)]
    show _ = cn_t (fa_Y so) (6 * c) + (if (so c && fa_o so (ge_nb c 1)) = true then 1 else 0) + (if (so c && fa_o so (ge_nb c 0)) = true then 1 else 0) + (if (so c && fa_o so (ge_nb c 3)) = true then 1 else 0) + (if (so c && fa_o so (ge_nb c 2)) = true then 1 else 0) + (if (so c && fa_o so (ge_nb c 5)) = true then 1 else 0) + (if (so c && fa_o so (ge_nb c 4)) = true then 1 else 0)
    omega
theorem fa_skip {c : Nat} (h : so c = false) : ∀ t, t ≤ 6 → cn_t (fa_X so) (6 * c + t) = cn_t (fa_X so) (6 * c)
  | 0, _ => rfl
  | t + 1, ht => by
    have e : fa_X so (6 * c + t) = false := by rw [fa_Xe (by omega), h, Bool.false_and]
    exact (cn_n e).trans (fa_skip h t (by omega))
theorem fa_13 {post : Int32 → Prop} {J : Int32 → Int32 → Prop} {c : Nat} (hc : c < 216) (K : J (nI (cn_t (fa_X so) (6 * c + 6))) (nI (c + 1))) :
    ∀ j t, t + j = 6 → ∀ n, j < n → wX_faces_13 post J (nI c) (nI w) (ar_B so) (ar_N la) (ar_B se) (ar_N lv) (ar_B ri) (ar_N st) (ar_N lo) (ar_N ke) (ar_B sn) n (nI (cn_t (fa_X so) (6 * c + t))) (nI t) := by
  have cc : (nI c).toNatClampNeg = c := nI_clamp (by omega)
  intro j
  induction j with
  | zero =>
    intro t ht n hn
    obtain ⟨n, rfl⟩ : ∃ m, n = m + 1 := ⟨n - 1, by omega⟩
    obtain rfl : t = 6 := by omega
    exact br_t (nI_le (a := 6) (b := 6) (by omega) (by omega)) (nm_r (nI_1 c) K)
  | succ j ih =>
    intro t ht n hn
    obtain ⟨n, rfl⟩ : ∃ m, n = m + 1 := ⟨n - 1, by omega⟩
    refine br_f (nI_ge (a := t) (b := 6) (by omega) (by decide)) ⟨vp_in_nI hc (by decide), ar_br c cc (fun hs => nm_r (nI_1 c) ?_) (fun hs => ?_)⟩
    · rw [fa_skip hs t (by omega)]
      rw [fa_skip hs 6 (by omega)] at K
      exact K
    · have I1 : fa_o so (ge_nb c t) = true → wX_faces_13 post J (nI c) (nI w) (ar_B so) (ar_N la) (ar_B se) (ar_N lv) (ar_B ri) (ar_N st) (ar_N lo) (ar_N ke) (ar_B sn) n (nI (cn_t (fa_X so) (6 * c + t) + 1)) (nI (t + 1)) := fun h => by
        have h1 := ih (t + 1) (by omega) n (by omega)
        have e : fa_X so (6 * c + t) = true := by rw [fa_Xe (by omega), hs, h]; rfl
        rw [show 6 * c + (t + 1) = 6 * c + t + 1 from rfl, cn_s e] at h1
        exact h1
      have I0 : fa_o so (ge_nb c t) = false → wX_faces_13 post J (nI c) (nI w) (ar_B so) (ar_N la) (ar_B se) (ar_N lv) (ar_B ri) (ar_N st) (ar_N lo) (ar_N ke) (ar_B sn) n (nI (cn_t (fa_X so) (6 * c + t))) (nI (t + 1)) := fun h => by
        have h1 := ih (t + 1) (by omega) n (by omega)
        have e : fa_X so (6 * c + t) = false := by rw [fa_Xe (by omega), h, Bool.and_false]
        rw [show 6 * c + (t + 1) = 6 * c + t + 1 from rfl, cn_n e] at h1
        exact h1
      refine xn_nb c t hc (by omega) rfl rfl (fun hN => br_t rfl (nm_r (nI_1 _) (nm_r (nI_1 t) (I1 (fa_on hN))))) (fun d hd hd2 => br_f (ar_m1 (by omega)) ⟨vp_in_nI hd2 (by decide), ar_br d (nI_clamp (by omega)) (fun hsd => ?_) (fun hsd => ?_)⟩)
      · exact nm_r (nI_1 _) (nm_r (nI_1 t) (I1 ((fa_os hd).trans (co_nf hsd))))
      · exact nm_r (Int32.add_zero _) (nm_r (nI_1 t) (I0 ((fa_os hd).trans (co_nt hsd))))
theorem fa_4 {post : Int32 → Prop} (K : post (nI (cn_t (fa_X so) 1296))) :
    ∀ j c, c + j = 216 → ∀ n, j < n → wX_faces_4 post (nI w) (ar_B so) (ar_N la) (ar_B se) (ar_N lv) (ar_B ri) (ar_N st) (ar_N lo) (ar_N ke) (ar_B sn) n (nI (cn_t (fa_X so) (6 * c))) (nI c) := by
  intro j
  induction j with
  | zero =>
    intro c hc n hn
    obtain ⟨n, rfl⟩ : ∃ m, n = m + 1 := ⟨n - 1, by omega⟩
    obtain rfl : c = 216 := by omega
    exact br_t (nI_le (a := 216) (b := 216) (by omega) (by omega)) K
  | succ j ih =>
    intro c hc n hn
    obtain ⟨n, rfl⟩ : ∃ m, n = m + 1 := ⟨n - 1, by omega⟩
    exact br_f (nI_ge (a := c) (b := 216) (by omega) (by decide)) ⟨7, fa_13 (by omega) (ih (c + 1) (by omega) n (by omega)) 6 0 rfl 7 (by decide)⟩
theorem fa_Y4 {post : Int32 → Prop} (K : post (nI (cn_t (fa_Y so) 1296))) :
    ∀ j k, k + j = 1296 → ∀ n, j < n → wY_faces_4 post (ar_B so) (ar_N la) (ar_N lg) (ar_N sg) (ar_N lb) (ar_N yk) n (nI (cn_t (fa_Y so) k)) (nI k) := by
  intro j
  induction j with
  | zero =>
    intro k hk n hn
    obtain ⟨n, rfl⟩ : ∃ m, n = m + 1 := ⟨n - 1, by omega⟩
    obtain rfl : k = 1296 := by omega
    exact br_t (nI_le (a := 1296) (b := 1296) (by omega) (by omega)) K
  | succ j ih =>
    intro k hk n hn
    obtain ⟨n, rfl⟩ : ∃ m, n = m + 1 := ⟨n - 1, by omega⟩
    obtain ⟨c, t, ht, rfl⟩ : ∃ c t, t < 6 ∧ k = 6 * c + t := ⟨k / 6, k % 6, by omega, by omega⟩
    have hc : c < 216 := by omega
    have ed : nI (6 * c + t) / 6 = nI c := by
      have := pk_div (a := 6 * c + t) (d := 6) (by omega) (by decide) (by decide)
      rw [show (6 * c + t) / 6 = c by omega] at this; exact this
    have er : nI (6 * c + t) - nI (6 * c + t) / 6 * 6 = nI t := by
      have := pk_rem (a := 6 * c + t) (d := 6) (by omega) (by decide) (by decide)
      rw [show (6 * c + t) % 6 = t by omega] at this; exact this
    have e1 : nI (6 * c + t) + 1 = nI (6 * c + t + 1) := nI_1 _
    have cc : (nI c).toNatClampNeg = c := nI_clamp (by omega)
    have I1 : so c = true → fa_o so (ge_nb c (ge_fl t)) = true → wY_faces_4 post (ar_B so) (ar_N la) (ar_N lg) (ar_N sg) (ar_N lb) (ar_N yk) n (nI (cn_t (fa_Y so) (6 * c + t) + 1)) (nI (6 * c + t + 1)) := fun hs h => by
      have h1 := ih (6 * c + t + 1) (by omega) n (by omega)
      have e : fa_Y so (6 * c + t) = true := by rw [fa_Ye ht, hs, h]; rfl
      rw [cn_s e] at h1
      exact h1
    have I0 : (so c && fa_o so (ge_nb c (ge_fl t))) = false → wY_faces_4 post (ar_B so) (ar_N la) (ar_N lg) (ar_N sg) (ar_N lb) (ar_N yk) n (nI (cn_t (fa_Y so) (6 * c + t))) (nI (6 * c + t + 1)) := fun h => by
      have h1 := ih (6 * c + t + 1) (by omega) n (by omega)
      have e : fa_Y so (6 * c + t) = false := by rw [fa_Ye ht]; exact h
      rw [cn_n e] at h1
      exact h1
    refine br_f (nI_ge (a := 6 * c + t) (b := 1296) (by omega) (by decide)) ⟨by decide, by decide, yn_bs c t hc ht ed er (fun hN => ?_) (fun d hd hd2 => ?_)⟩
    · rw [ed]
      exact ⟨by decide, vp_in_nI hc (by decide), ar_br c cc (fun hs => nm_r e1 (I0 (co_f hs))) (fun hs => br_t (by decide) (nm_r (nI_1 _) (nm_r e1 (I1 hs (fa_on hN)))))⟩
    · rw [ed]
      exact ⟨by decide, vp_in_nI hc (by decide), ar_br c cc (fun hs => nm_r e1 (I0 (co_f hs))) (fun hs => br_f (nI_pos (by omega)) ⟨vp_in_nI hd2 (by decide), ar_br d (nI_clamp (by omega)) (fun hsd => nm_r (nI_1 _) (nm_r e1 (I1 hs ((fa_os hd).trans (co_nf hsd))))) (fun hsd => nm_r e1 (I0 (co_g ((fa_os hd).trans (co_nt hsd)))))⟩)⟩
end DF
theorem i_vc_darkest {k : Nat} {u : SX} {v : SY} (I : i_Rel k u v) (hk : k + 4 ≤ 2048) : wpX_darkest (fun r => wpY_darkest (fun r' v' => r' = r ∧ i_Rel (k + 4) u v') v) u := by
  refine rl_el (P := fun u v => wpX_darkest (fun r => wpY_darkest (fun r' v' => r' = r ∧ i_Rel (k + 4) u v') v) u) ?_ I
  intro w so la se lv ri st lo ke sn lg sg lb yk I
  unfold wpX_darkest wpY_darkest
  dsimp only
  obtain ⟨r, hX, hY⟩ := dk_loop (w := w) (so := so) (la := la) (se := se) (ri := ri) (st := st) (lo := lo) (ke := ke) (sn := sn) (lb := lb) (yk := yk) I.2.2.1 216 0 rfl (-1) (Or.inl rfl)
  refine ⟨217, hX 217 (by decide) _ ?_⟩
  refine yf_shine I (fun lg sg g1 g2 => ⟨217, ?_⟩)
  exact hY lg sg g1 g2 217 (by decide) _ ⟨rfl, rl_mk I⟩
theorem i_vc_faces {k : Nat} {u : SX} {v : SY} (I : i_Rel k u v) (hk : k + 4 ≤ 2048) : wpX_faces (fun r => wpY_faces (fun r' => r' = r ∧ i_Rel (k + 4) u v) v) u := by
  refine rl_el (P := fun u v => wpX_faces (fun r => wpY_faces (fun r' => r' = r ∧ i_Rel (k + 4) u v) v) u) ?_ I
  intro w so la se lv ri st lo ke sn lg sg lb yk I
  unfold wpX_faces wpY_faces
  dsimp only
  refine ⟨217, fa_4 ⟨1297, fa_Y4 ⟨?_, rl_mk I⟩ 1296 0 rfl 1297 (by decide)⟩ 216 0 rfl 217 (by decide)⟩
  exact congrArg nI (fa_eq so 216).symm
end
section
/-! serves -/
section SV
variable {so se ri sn f : Nat → Bool} {la lv lv' st lo ke lg sg lb yk : Nat → Nat} {w c : Nat}
theorem sv_u (la : Nat → Nat) (c s : Nat) : ar_u (ar_u la c s) c (la c) = la := by
  funext j
  by_cases e : j = c
  · subst e; rw [ar_us]
  · rw [ar_un e, ar_un e]
theorem sv_53 {post : Int32 → SX → Prop} {x1 x2 : Int32} (B : lf_B lv') (B0 : lf_B lv) (hke : ∀ j, j < 216 → ke j = li_l lv j) (hf : f = fun j => !decide (li_l lv j ≤ li_l lv' j))
    (K : wpX_setLamp (fun u => match u with | (f_waiting, a_solids, a_lamps, a_sees, a_levels, a_rims, a_stack, a_lost, a_kept, a_seen) => post (nI (cn_t f 216)) (f_waiting, a_solids, a_lamps, a_sees, a_levels, a_rims, a_stack, a_lost, a_kept, a_seen)) (nI w, ar_B so, ar_N la, ar_B se, ar_N lv', ar_B ri, ar_N st, ar_N lo, ar_N ke, ar_B sn) x1 x2) :
    ∀ j i, i + j = 216 → ∀ n, j < n → wX_serves_53 post x1 x2 (nI w) (ar_B so) (ar_N la) (ar_B se) (ar_N lv') (ar_B ri) (ar_N st) (ar_N lo) (ar_N ke) (ar_B sn) n (nI (cn_t f i)) (nI i) := by
  intro j
  induction j with
  | zero =>
    intro i hi n hn
    obtain ⟨n, rfl⟩ : ∃ m, n = m + 1 := ⟨n - 1, by omega⟩
    obtain rfl : i = 216 := by omega
    exact br_t (nI_le (a := 216) (b := 216) (by omega) (by omega)) K
  | succ j ih =>
    intro i hi n hn
    obtain ⟨n, rfl⟩ : ∃ m, n = m + 1 := ⟨n - 1, by omega⟩
    have hi2 : i < 216 := by omega
    have ci : (nI i).toNatClampNeg = i := nI_clamp (by omega)
    have b1 := li_12 B hi2
    have b2 := li_12 B0 hi2
    have I0 : li_l lv i ≤ li_l lv' i → wX_serves_53 post x1 x2 (nI w) (ar_B so) (ar_N la) (ar_B se) (ar_N lv') (ar_B ri) (ar_N st) (ar_N lo) (ar_N ke) (ar_B sn) n (nI (cn_t f i)) (nI (i + 1)) := fun h => by
      have h1 := ih (i + 1) (by omega) n (by omega)
      rw [cn_n (by rw [hf]; exact co_nt (decide_eq_true h))] at h1; exact h1
    have I1 : li_l lv' i < li_l lv i → wX_serves_53 post x1 x2 (nI w) (ar_B so) (ar_N la) (ar_B se) (ar_N lv') (ar_B ri) (ar_N st) (ar_N lo) (ar_N ke) (ar_B sn) n (nI (cn_t f i + 1)) (nI (i + 1)) := fun h => by
      have h1 := ih (i + 1) (by omega) n (by omega)
      rw [cn_s (by rw [hf]; exact co_nf (decide_eq_false (by omega)))] at h1; exact h1
    refine br_f (nI_ge (a := i) (b := 216) (by omega) (by decide)) (xl_l B hi2 ⟨vp_in_nI hi2 (by decide), pk_le (li_l lv i) (li_l lv' i) (fun h => ?_) (fun h => ?_) (by rw [ar_at ci, hke i hi2])⟩)
    · exact nm_r (Int32.add_zero _) (nm_r (nI_1 i) (I0 h))
    · exact nm_r (nI_1 _) (nm_r (nI_1 i) (I1 h))
theorem sv_11 {post : Int32 → SX → Prop} (hc : c < 216) (I : rl_I so la se lv)
    (K : ∀ w lv' lv2 ri st lo ke, rl_I so (ar_u la c 0) se lv' → rl_I so la se lv2 → post (nI (cn_t (fun j => !decide (li_l lv j ≤ li_l lv' j)) 216)) (nI w, ar_B so, ar_N la, ar_B se, ar_N lv2, ar_B ri, ar_N st, ar_N lo, ar_N ke, ar_B sn)) :
    ∀ j i, i + j = 216 → ∀ n, j < n → ∀ ke, (∀ j, j < i → ke j = li_l lv j) → wX_serves_11 post (nI c) (nI w) n (nI i) (ar_B so) (ar_N la) (ar_B se) (ar_N lv) (ar_B ri) (ar_N st) (ar_N lo) (ar_N ke) (ar_B sn) := by
  have cc : (nI c).toNatClampNeg = c := nI_clamp (by omega)
  have B := I.2.2.1
  intro j
  induction j with
  | zero =>
    intro i hi n hn ke hke
    obtain ⟨n, rfl⟩ : ∃ m, n = m + 1 := ⟨n - 1, by omega⟩
    obtain rfl : i = 216 := by omega
    refine br_t (nI_le (a := 216) (b := 216) (by omega) (by omega)) ⟨vp_in_nI hc (by decide), nm_r (ar_at cc) ?_⟩
    refine xc_lamp (s := 0) hc (by decide) I (fun w lv' ri st lo I' => ⟨217, ?_⟩)
    refine sv_53 I'.2.2.1 B hke rfl ?_ 216 0 rfl 217 (by decide)
    refine xc_lamp hc (I.1 c hc) I' (fun w lv2 ri st lo I2 => ?_)
    rw [sv_u] at I2 ⊢
    exact K w lv' lv2 ri st lo ke I' I2
  | succ j ih =>
    intro i hi n hn ke hke
    obtain ⟨n, rfl⟩ : ∃ m, n = m + 1 := ⟨n - 1, by omega⟩
    have hi2 : i < 216 := by omega
    have ci : (nI i).toNatClampNeg = i := nI_clamp (by omega)
    refine br_f (nI_ge (a := i) (b := 216) (by omega) (by decide)) (xl_l B hi2 ⟨vp_in_nI hi2 (by decide), nm_r (ar_wN ci rfl) (nm_r (nI_1 i) (ih (i + 1) (by omega) n (by omega) _ (fun j hj => ?_)))⟩)
    by_cases e : j = i
    · subst e; exact ar_us
    · rw [ar_un e]; exact hke j (by omega)
theorem sv_70 {post : Int32 → SY → Prop} (B : lf_B lv') (B0 : lf_B lv) (g1 : ∀ c, c < 216 → lg c = lv' c) (g2 : ∀ c, c < 216 → sg c = lv' (216 + c)) (hyk : ∀ j, j < 216 → yk j = li_l lv j) (hf : f = fun j => !decide (li_l lv j ≤ li_l lv' j))
    (K : post (nI (cn_t f 216)) (ar_B so, ar_N la, ar_N lg, ar_N sg, ar_N lb, ar_N yk)) :
    ∀ j i, i + j = 216 → ∀ n, j < n → wY_serves_70 post (ar_B so) (ar_N la) (ar_N lg) (ar_N sg) (ar_N lb) (ar_N yk) n (nI (cn_t f i)) (nI i) := by
  intro j
  induction j with
  | zero =>
    intro i hi n hn
    obtain ⟨n, rfl⟩ : ∃ m, n = m + 1 := ⟨n - 1, by omega⟩
    obtain rfl : i = 216 := by omega
    exact br_t (nI_le (a := 216) (b := 216) (by omega) (by omega)) K
  | succ j ih =>
    intro i hi n hn
    obtain ⟨n, rfl⟩ : ∃ m, n = m + 1 := ⟨n - 1, by omega⟩
    have hi2 : i < 216 := by omega
    have ci : (nI i).toNatClampNeg = i := nI_clamp (by omega)
    have b1 := li_12 B hi2
    have b2 := li_12 B0 hi2
    have I0 : li_l lv i ≤ li_l lv' i → wY_serves_70 post (ar_B so) (ar_N la) (ar_N lg) (ar_N sg) (ar_N lb) (ar_N yk) n (nI (cn_t f i)) (nI (i + 1)) := fun h => by
      have h1 := ih (i + 1) (by omega) n (by omega)
      rw [cn_n (by rw [hf]; exact co_nt (decide_eq_true h))] at h1; exact h1
    have I1 : li_l lv' i < li_l lv i → wY_serves_70 post (ar_B so) (ar_N la) (ar_N lg) (ar_N sg) (ar_N lb) (ar_N yk) n (nI (cn_t f i + 1)) (nI (i + 1)) := fun h => by
      have h1 := ih (i + 1) (by omega) n (by omega)
      rw [cn_s (by rw [hf]; exact co_nf (decide_eq_false (by omega)))] at h1; exact h1
    refine br_f (nI_ge (a := i) (b := 216) (by omega) (by decide)) (yl_l B g1 g2 hi2 ⟨vp_in_nI hi2 (by decide), pk_le (li_l lv i) (li_l lv' i) (fun h => ?_) (fun h => ?_) (by rw [ar_at ci, hyk i hi2])⟩)
    · exact nm_r (nI_1 i) (I0 h)
    · exact nm_r (nI_1 _) (nm_r (nI_1 i) (I1 h))
theorem sv_16 {post : Int32 → SY → Prop} (hc : c < 216) (I : rl_I so la se lv) (I' : rl_I so (ar_u la c 0) se lv') (g1 : ∀ c, c < 216 → lg c = lv c) (g2 : ∀ c, c < 216 → sg c = lv (216 + c))
    (K : ∀ lg sg yk, post (nI (cn_t (fun j => !decide (li_l lv j ≤ li_l lv' j)) 216)) (ar_B so, ar_N la, ar_N lg, ar_N sg, ar_N lb, ar_N yk)) :
    ∀ j i, i + j = 216 → ∀ n, j < n → ∀ yk, (∀ j, j < i → yk j = li_l lv j) → wY_serves_16 post (nI c) n (nI i) (ar_B so) (ar_N la) (ar_N lg) (ar_N sg) (ar_N lb) (ar_N yk) := by
  have cc : (nI c).toNatClampNeg = c := nI_clamp (by omega)
  have ic : vp_in (nI c) 216 := vp_in_nI hc (by decide)
  have B := I.2.2.1
  intro j
  induction j with
  | zero =>
    intro i hi n hn yk hyk
    obtain ⟨n, rfl⟩ : ∃ m, n = m + 1 := ⟨n - 1, by omega⟩
    obtain rfl : i = 216 := by omega
    refine br_t (nI_le (a := 216) (b := 216) (by omega) (by omega)) ⟨ic, nm_r (ar_at cc) ⟨ic, nm_r (ar_wN (x := 0) cc rfl) ?_⟩⟩
    refine yf_shine I' (fun lg sg h1 h2 => ⟨ic, nm_r (ar_wN cc rfl) ⟨217, ?_⟩⟩)
    rw [sv_u]
    exact sv_70 I'.2.2.1 B h1 h2 hyk rfl (K lg sg yk) 216 0 rfl 217 (by decide)
  | succ j ih =>
    intro i hi n hn yk hyk
    obtain ⟨n, rfl⟩ : ∃ m, n = m + 1 := ⟨n - 1, by omega⟩
    have hi2 : i < 216 := by omega
    have ci : (nI i).toNatClampNeg = i := nI_clamp (by omega)
    refine br_f (nI_ge (a := i) (b := 216) (by omega) (by decide)) (yl_l B g1 g2 hi2 ⟨vp_in_nI hi2 (by decide), nm_r (ar_wN ci rfl) (nm_r (nI_1 i) (ih (i + 1) (by omega) n (by omega) _ (fun j hj => ?_)))⟩)
    by_cases e : j = i
    · subst e; exact ar_us
    · rw [ar_un e]; exact hyk j (by omega)
end SV
theorem i_vc_serves {k : Nat} {u : SX} {v : SY} (I : i_Rel k u v) (hk : k + 4 ≤ 2048) (v1 : Int32) : wpX_serves (fun r u' => wpY_serves (fun r' v' => r' = r ∧ i_Rel (k + 4) u' v') v v1) u v1 := by
  refine rl_el (P := fun u v => wpX_serves (fun r u' => wpY_serves (fun r' v' => r' = r ∧ i_Rel (k + 4) u' v') v v1) u v1) ?_ I
  intro w so la se lv ri st lo ke sn lg sg lb yk I
  unfold wpX_serves wpY_serves
  dsimp only
  by_cases h : ce_ok v1
  · have h' := h
    obtain ⟨c, hc, rfl⟩ := h'
    refine xb_isCell (fun h' => absurd h h') (fun _ => br_f (by decide) ⟨217, ?_⟩)
    refine sv_11 hc I (fun w lv' lv2 ri st lo ke I' I2 => ?_) 216 0 rfl 217 (by decide) ke (fun j hj => absurd hj (Nat.not_lt_zero j))
    refine yb_bad (fun h' => absurd h h') (fun _ => br_t rfl ?_)
    refine yf_shine I (fun lg sg g1 g2 => ⟨217, ?_⟩)
    exact sv_16 hc I I' g1 g2 (fun lg sg yk => ⟨rfl, rl_mk I2⟩) 216 0 rfl 217 (by decide) yk (fun j hj => absurd hj (Nat.not_lt_zero j))
  · refine xb_isCell (fun _ => br_t rfl ?_) (fun h' => absurd h' h)
    exact yb_bad (fun _ => br_f (by decide) ⟨rfl, rl_mk I⟩) (fun h' => absurd h' h)
end
section
/-! rooms: pure -/
def cc_C (so : Nat → Bool) (C : Nat → Prop) : Prop := ∀ x y, C x → x < 216 → ge_adj x y → so y = false → C y
/-- a reaches b -/
def cc_R (so : Nat → Bool) (a b : Nat) : Prop := ∀ C : Nat → Prop, C a → cc_C so C → C b
section CC
variable {so : Nat → Bool}
theorem cc_refl {a : Nat} : cc_R so a a := fun _ h _ => h
theorem cc_step {a x y : Nat} (h : cc_R so a x) (hx : x < 216) (hy : ge_adj x y) (hs : so y = false) : cc_R so a y := fun C ha hC => hC x y (h C ha hC) hx hy hs
theorem cc_trans {a b c : Nat} (h : cc_R so a b) (h2 : cc_R so b c) : cc_R so a c := fun C ha hC => h2 C (h C ha hC) hC
theorem cc_back {a b : Nat} (ha : a < 216) (hs : so a = false) (h : cc_R so a b) : b < 216 ∧ so b = false ∧ cc_R so b a := by
  refine h (fun x => x < 216 ∧ so x = false ∧ cc_R so x a) ⟨ha, hs, cc_refl⟩ ?_
  rintro x y ⟨h1, h2, h3⟩ _ hxy hy
  have hy2 := ge_lt2 hxy h1
  exact ⟨hy2, hy, cc_trans (cc_step cc_refl hy2 (ge_sym hxy) h2) h3⟩
def cc_P (so : Nat → Bool) (c a : Nat) : Prop := (a < 216 ∧ so a = false ∧ cc_R so a c) ∨ a = 216
/-- the least cell that reaches c -/
noncomputable def cc_m (so : Nat → Bool) (c : Nat) : Nat := Classical.choose (pk_least (cc_P so c) ⟨216, Or.inr rfl⟩)
theorem cc_ms (so : Nat → Bool) (c : Nat) : cc_P so c (cc_m so c) ∧ ∀ j, j < cc_m so c → ¬ cc_P so c j := Classical.choose_spec (pk_least (cc_P so c) ⟨216, Or.inr rfl⟩)
theorem cc_min {a c : Nat} (ha : a < 216) (hs : so a = false) (h : cc_R so a c) : cc_m so c ≤ a := by
  by_cases e : cc_m so c ≤ a
  · exact e
  · exact absurd (Or.inl ⟨ha, hs, h⟩) ((cc_ms so c).2 a (by omega))
theorem cc_mle {c : Nat} (hc : c < 216) (hs : so c = false) : cc_m so c ≤ c := cc_min hc hs cc_refl
theorem cc_mok {c : Nat} (hc : c < 216) (hs : so c = false) : cc_m so c < 216 ∧ so (cc_m so c) = false ∧ cc_R so (cc_m so c) c := by
  rcases (cc_ms so c).1 with h | h
  · exact h
  · have := cc_mle hc hs
    omega
theorem cc_meq {a c : Nat} (ha : a < 216) (hs : so a = false) (h : cc_R so a c) : cc_m so a = cc_m so c := by
  obtain ⟨hc, hsc, hb⟩ := cc_back ha hs h
  have h1 := cc_mok ha hs
  have h2 := cc_mok hc hsc
  have h3 := cc_min h1.1 h1.2.1 (cc_trans h1.2.2 h)
  have h4 := cc_min h2.1 h2.2.1 (cc_trans h2.2.2 hb)
  omega
/-- labels that are cells of the room -/
def lb_K (so : Nat → Bool) (lb : Nat → Nat) : Prop := ∀ c, c < 216 → so c = false → lb c < 216 ∧ so (lb c) = false ∧ cc_R so (lb c) c ∧ lb c ≤ c
def lb_P (so : Nat → Bool) (lb0 : Nat → Nat) (k : Nat) (lb : Nat → Nat) : Prop := lb_K so lb ∧ (∀ c, c < 216 → lb c ≤ lb0 c) ∧ (∀ c, c < 216 → so c = false → ∀ t, t < 6 → 6 * c + t < k → ∀ d, ge_nb c (ge_fl t) = some d → so d = false → lb c ≤ lb0 d)
noncomputable def lb_D (so : Nat → Bool) (lb : Nat → Nat) : Nat → Bool := fun c => so c || decide (lb c = cc_m so c)
variable {lb lb0 : Nat → Nat}
theorem lb_P0 (h : lb_K so lb) : lb_P so lb 0 lb := ⟨h, fun _ _ => Nat.le_refl _, fun _ _ _ t _ h => absurd h (Nat.not_lt_zero _)⟩
theorem lb_keep {c t : Nat} (ht : t < 6) (hk : ∀ d, so c = false → ge_nb c (ge_fl t) = some d → so d = false → d < 216 ∧ lb c ≤ lb d) (h : lb_P so lb0 (6 * c + t) lb) : lb_P so lb0 (6 * c + t + 1) lb := by
  refine ⟨h.1, h.2.1, fun c' hc' hs t' ht' hlt d hd hsd => ?_⟩
  by_cases e : 6 * c' + t' = 6 * c + t
  · obtain rfl : c' = c := by omega
    obtain rfl : t' = t := by omega
    have h1 := hk d hs hd hsd
    have h2 := h.2.1 d h1.1
    omega
  · exact h.2.2 c' hc' hs t' ht' (by omega) d hd hsd
theorem lb_set {c t d : Nat} (hc : c < 216) (ht : t < 6) (hs : so c = false) (hd : ge_nb c (ge_fl t) = some d) (hsd : so d = false) (hlt : lb d < lb c) (h : lb_P so lb0 (6 * c + t) lb) : lb_P so lb0 (6 * c + t + 1) (ar_u lb c (lb d)) := by
  have had : ge_adj c d := ⟨_, ge_fl6 ht, hd⟩
  have hd2 := ge_lt2 had hc
  have hdd := h.1 d hd2 hsd
  have hcc := h.1 c hc hs
  refine ⟨fun c' hc' hs' => ?_, fun c' hc' => ?_, fun c' hc' hs' t' ht' hlt' d' hd' hsd' => ?_⟩
  · by_cases e : c' = c
    · subst e
      rw [ar_us]
      exact ⟨hdd.1, hdd.2.1, cc_step hdd.2.2.1 hd2 (ge_sym had) hs, by omega⟩
    · rw [ar_un e]; exact h.1 c' hc' hs'
  · by_cases e : c' = c
    · subst e
      have := h.2.1 c' hc'
      rw [ar_us]; omega
    · rw [ar_un e]; exact h.2.1 c' hc'
  · by_cases e : c' = c
    · subst e
      rw [ar_us]
      by_cases e2 : t' = t
      · subst e2
        rw [hd] at hd'
        cases hd'
        exact h.2.1 d hd2
      · have := h.2.2 c' hc' hs' t' ht' (by omega) d' hd' hsd'
        omega
    · rw [ar_un e]
      exact h.2.2 c' hc' hs' t' ht' (by omega) d' hd' hsd'
theorem lb_full (h : lb_P so lb0 1296 lb) {c d : Nat} (hc : c < 216) (hs : so c = false) (hd : ge_adj c d) (hsd : so d = false) : lb c ≤ lb0 d := by
  obtain ⟨t, ht, e⟩ := hd
  exact h.2.2 c hc hs (ge_fl t) (ge_fl6 ht) (by have := ge_fl6 ht; omega) d (by rw [ge_flfl]; exact e) hsd
theorem lb_Dt {c : Nat} (h : lb c = cc_m so c) : lb_D so lb c = true := by
  unfold lb_D; rw [decide_eq_true h, Bool.or_true]
theorem lb_Df {c : Nat} (h : lb_D so lb c = false) : so c = false ∧ lb c ≠ cc_m so c := by
  unfold lb_D at h
  rw [Bool.or_eq_false_iff] at h
  exact ⟨h.1, of_decide_eq_false h.2⟩
theorem lb_De {c : Nat} (h : lb_D so lb c = true) (hs : so c = false) : lb c = cc_m so c := by
  unfold lb_D at h
  rw [hs, Bool.false_or] at h
  exact of_decide_eq_true h
theorem lb_mono (h0 : lb_K so lb0) (h : lb_P so lb0 1296 lb) {c : Nat} (hc : c < 216) (hD : lb_D so lb0 c = true) : lb_D so lb c = true := by
  cases hs : so c
  · have h1 := lb_De hD hs
    have h2 := h.2.1 c hc
    have h3 := h.1 c hc hs
    have h4 := cc_min h3.1 h3.2.1 h3.2.2.1
    exact lb_Dt (by omega)
  · unfold lb_D; rw [hs, Bool.true_or]
theorem lb_prog (h0 : lb_K so lb0) (h : lb_P so lb0 1296 lb) {c : Nat} (hc : c < 216) (hD : lb_D so lb0 c = false) : ∃ y, y < 216 ∧ lb_D so lb0 y = false ∧ lb_D so lb y = true := by
  by_cases hex : ∃ y, y < 216 ∧ lb_D so lb0 y = false ∧ lb_D so lb y = true
  · exact hex
  · exfalso
    obtain ⟨hs, hne⟩ := lb_Df hD
    have hm := cc_mok hc hs
    have key : c < 216 ∧ so c = false ∧ lb0 c = cc_m so c ∧ cc_m so c = cc_m so c := by
      refine hm.2.2 (fun x => x < 216 ∧ so x = false ∧ lb0 x = cc_m so x ∧ cc_m so x = cc_m so c) ⟨hm.1, hm.2.1, ?_, cc_meq hm.1 hm.2.1 hm.2.2⟩ ?_
      · have e := cc_meq hm.1 hm.2.1 hm.2.2
        have h1 := h0 (cc_m so c) hm.1 hm.2.1
        have h2 := cc_min h1.1 h1.2.1 h1.2.2.1
        omega
      · rintro x y ⟨h1, h2, h3, h4⟩ _ hxy hy
        have hy2 := ge_lt2 hxy h1
        have e : cc_m so x = cc_m so y := cc_meq h1 h2 (cc_step cc_refl h1 hxy hy)
        refine ⟨hy2, hy, ?_, by omega⟩
        by_cases e2 : lb0 y = cc_m so y
        · exact e2
        · exfalso
          apply hex
          refine ⟨y, hy2, ?_, ?_⟩
          · unfold lb_D; rw [hy, decide_eq_false e2]; rfl
          · have h5 := lb_full h hy2 hy (ge_sym hxy) h2
            have h6 := h.1 y hy2 hy
            have h7 := cc_min h6.1 h6.2.1 h6.2.2.1
            exact lb_Dt (by omega)
    exact hne key.2.2.1
/-- after k passes -/
def lb_Q (so : Nat → Bool) (k : Nat) (lb : Nat → Nat) : Prop := lb_K so lb ∧ (k ≤ cn_t (lb_D so lb) 216 ∨ ∀ c, c < 216 → lb_D so lb c = true)
theorem lb_next {k : Nat} (hQ : lb_Q so k lb0) (h : lb_P so lb0 1296 lb) : lb_Q so (k + 1) lb := by
  refine ⟨h.1, ?_⟩
  by_cases hall : ∀ c, c < 216 → lb_D so lb0 c = true
  · exact Or.inr (fun c hc => lb_mono hQ.1 h hc (hall c hc))
  · rcases hQ.2 with hk | hk
    · refine Or.inl ?_
      by_cases hex : ∃ c, c < 216 ∧ lb_D so lb0 c = false
      · obtain ⟨c, hc, hD⟩ := hex
        obtain ⟨y, hy, y1, y2⟩ := lb_prog hQ.1 h hc hD
        have := cn_more (f := lb_D so lb0) (g := lb_D so lb) y1 y2 216 hy (fun j hj hd => lb_mono hQ.1 h hj hd)
        omega
      · exfalso
        apply hall
        intro c hc
        cases hD : lb_D so lb0 c
        · exact absurd ⟨c, hc, hD⟩ hex
        · rfl
    · exact absurd hk hall
theorem lb_stop (h0 : lb_K so lb) (h : lb_P so lb 1296 lb) : ∀ c, c < 216 → lb_D so lb c = true := by
  intro c hc
  cases hD : lb_D so lb c
  · obtain ⟨y, hy, y1, y2⟩ := lb_prog h0 h hc hD
    rw [y1] at y2; exact nomatch y2
  · rfl
theorem lb_fin (hQ : lb_Q so 216 lb) : ∀ c, c < 216 → lb_D so lb c = true := by
  rcases hQ.2 with h | h
  · exact cn_all 216 h
  · exact h
end CC
/-- cells that are the least of their room -/
noncomputable def cc_f (so : Nat → Bool) : Nat → Bool := fun c => !so c && decide (cc_m so c = c)
/-- the walk: what is on the stack, what is seen -/
def wk_O (sn0 : Nat → Bool) (s w : Nat) (sn : Nat → Bool) (st : Nat → Nat) : Prop :=
  (∀ k, k < w → st k < 216) ∧ (∀ p, p < 216 → sn0 p = true → sn p = true) ∧ sn s = true ∧
  (∀ C : Nat → Prop, C s → cc_C sn0 C → (∀ k, k < w → C (st k)) ∧ ∀ p, p < 216 → sn p = true → sn0 p = true ∨ C p) ∧
  (∀ p, p < 216 → sn p = true → sn0 p = false → (∃ k, k < w ∧ st k = p) ∨ ∀ q, ge_adj p q → sn q = true)
def wk_J (sn0 : Nat → Bool) (s a i w : Nat) (sn : Nat → Bool) (st : Nat → Nat) : Prop :=
  (∀ k, k < w → st k < 216) ∧ (∀ p, p < 216 → sn0 p = true → sn p = true) ∧ sn s = true ∧
  (∀ C : Nat → Prop, C s → cc_C sn0 C → C a ∧ (∀ k, k < w → C (st k)) ∧ ∀ p, p < 216 → sn p = true → sn0 p = true ∨ C p) ∧
  (∀ p, p < 216 → sn p = true → sn0 p = false → (∃ k, k < w ∧ st k = p) ∨ (p = a ∧ ∀ j, j < i → ∀ q, ge_nb a j = some q → sn q = true) ∨ ∀ q, ge_adj p q → sn q = true)
section WK
variable {sn0 sn : Nat → Bool} {s a i w : Nat} {st : Nat → Nat}
theorem wk_0 (hs : s < 216) (h0 : sn0 s = false) : wk_O sn0 s 1 (ar_u sn0 s true) (ar_u st 0 s) := by
  refine ⟨fun k hk => ?_, fun p hp h => ?_, ar_us, fun C hC hcl => ⟨fun k hk => ?_, fun p hp h => ?_⟩, fun p hp h h2 => ?_⟩
  · obtain rfl : k = 0 := by omega
    rw [ar_us]; exact hs
  · by_cases e : p = s
    · subst e; exact ar_us
    · rw [ar_un e]; exact h
  · obtain rfl : k = 0 := by omega
    rw [ar_us]; exact hC
  · by_cases e : p = s
    · subst e; exact Or.inr hC
    · rw [ar_un e] at h; exact Or.inl h
  · by_cases e : p = s
    · subst e; exact Or.inl ⟨0, by decide, ar_us⟩
    · rw [ar_un e, h2] at h; exact nomatch h
theorem wk_pop (h : wk_O sn0 s (w + 1) sn st) : wk_J sn0 s (st w) 0 w sn st := by
  obtain ⟨h1, h2, h3, h4, h5⟩ := h
  refine ⟨fun k hk => h1 k (by omega), h2, h3, fun C hC hcl => ⟨(h4 C hC hcl).1 w (by omega), fun k hk => (h4 C hC hcl).1 k (by omega), (h4 C hC hcl).2⟩, fun p hp hs h0 => ?_⟩
  rcases h5 p hp hs h0 with ⟨k, hk, e⟩ | h
  · by_cases e2 : k = w
    · subst e2; exact Or.inr (Or.inl ⟨e.symm, fun j hj => absurd hj (Nat.not_lt_zero j)⟩)
    · exact Or.inl ⟨k, by omega, e⟩
  · exact Or.inr (Or.inr h)
theorem wk_out (h : wk_J sn0 s a 6 w sn st) : wk_O sn0 s w sn st := by
  obtain ⟨h1, h2, h3, h4, h5⟩ := h
  refine ⟨h1, h2, h3, fun C hC hcl => (h4 C hC hcl).2, fun p hp hs h0 => ?_⟩
  rcases h5 p hp hs h0 with h | ⟨rfl, h⟩ | h
  · exact Or.inl h
  · exact Or.inr (fun q hq => by obtain ⟨j, hj, e⟩ := hq; exact h j hj q e)
  · exact Or.inr h
theorem wk_keep (hk : ∀ d, ge_nb a i = some d → sn d = true) (h : wk_J sn0 s a i w sn st) : wk_J sn0 s a (i + 1) w sn st := by
  obtain ⟨h1, h2, h3, h4, h5⟩ := h
  refine ⟨h1, h2, h3, h4, fun p hp hs h0 => ?_⟩
  rcases h5 p hp hs h0 with h | ⟨e, h⟩ | h
  · exact Or.inl h
  · refine Or.inr (Or.inl ⟨e, fun j hj q hq => ?_⟩)
    by_cases e2 : j = i
    · subst e2; exact hk q hq
    · exact h j (by omega) q hq
  · exact Or.inr (Or.inr h)
theorem wk_push {d : Nat} (ha : a < 216) (hi : i < 6) (hd : ge_nb a i = some d) (hsn : sn d = false) (h : wk_J sn0 s a i w sn st) : wk_J sn0 s a (i + 1) (w + 1) (ar_u sn d true) (ar_u st w d) := by
  obtain ⟨h1, h2, h3, h4, h5⟩ := h
  have had : ge_adj a d := ⟨i, hi, hd⟩
  have hd2 := ge_lt2 had ha
  have up : ∀ q, sn q = true → ar_u sn d true q = true := fun q hq => by
    by_cases e : q = d
    · subst e; exact ar_us
    · rw [ar_un e]; exact hq
  have h0d : sn0 d = false := by
    cases hx : sn0 d
    · rfl
    · rw [h2 d hd2 hx] at hsn; exact nomatch hsn
  refine ⟨fun k hk => ?_, fun p hp h => up p (h2 p hp h), up s h3, fun C hC hcl => ?_, fun p hp hs h0 => ?_⟩
  · by_cases e : k = w
    · subst e; rw [ar_us]; exact hd2
    · rw [ar_un e]; exact h1 k (by omega)
  · obtain ⟨c1, c2, c3⟩ := h4 C hC hcl
    have cd : C d := hcl a d c1 ha had h0d
    refine ⟨c1, fun k hk => ?_, fun p hp hs => ?_⟩
    · by_cases e : k = w
      · subst e; rw [ar_us]; exact cd
      · rw [ar_un e]; exact c2 k (by omega)
    · by_cases e : p = d
      · subst e; exact Or.inr cd
      · rw [ar_un e] at hs; exact c3 p hp hs
  · by_cases e : p = d
    · subst e; exact Or.inl ⟨w, by omega, ar_us⟩
    · rw [ar_un e] at hs
      rcases h5 p hp hs h0 with ⟨k, hk, e2⟩ | ⟨e2, h⟩ | h
      · exact Or.inl ⟨k, by omega, by rw [ar_un (by omega)]; exact e2⟩
      · refine Or.inr (Or.inl ⟨e2, fun j hj q hq => ?_⟩)
        by_cases e3 : j = i
        · subst e3
          rw [hd] at hq
          cases hq
          exact ar_us
        · exact up q (h j (by omega) q hq)
      · exact Or.inr (Or.inr (fun q hq => up q (h q hq)))
end WK
def wk_c (sn : Nat → Bool) : Nat → Bool := fun p => !sn p
theorem wk_cd {sn : Nat → Bool} {d : Nat} (hd : d < 216) (h : sn d = false) : cn_t (wk_c (ar_u sn d true)) 216 + 1 = cn_t (wk_c sn) 216 := by
  refine cn_drop (k := d) (co_nf h) (co_nt ar_us) 216 hd (fun j hj hne => ?_)
  show (!sn j) = !(ar_u sn d true j)
  rw [ar_un hne]
theorem wk_cp {sn : Nat → Bool} {d : Nat} (hd : d < 216) (h : sn d = false) : 1 ≤ cn_t (wk_c sn) 216 := cn_pos hd (co_nf h)
/-- what is seen when cell i is next -/
def rm_S (so : Nat → Bool) (i : Nat) (sn : Nat → Bool) : Prop := ∀ p, p < 216 → (sn p = true ↔ (so p = true ∨ ∃ a, a < i ∧ so a = false ∧ cc_R so a p))
section RM
variable {so sn sn' : Nat → Bool} {i : Nat} {st : Nat → Nat}
theorem rm_0 (h : ∀ p, p < 216 → sn p = so p) : rm_S so 0 sn := by
  intro p hp
  rw [h p hp]
  exact ⟨fun h => Or.inl h, fun h => by
    rcases h with h | ⟨a, ha, _⟩
    · exact h
    · exact absurd ha (Nat.not_lt_zero a)⟩
theorem rm_old (hi : i < 216) (hs : sn i = true) (h : rm_S so i sn) : rm_S so (i + 1) sn ∧ cc_f so i = false := by
  have hi' := (h i hi).mp hs
  constructor
  · intro p hp
    constructor
    · intro hp2
      rcases (h p hp).mp hp2 with h1 | ⟨a, ha, h1⟩
      · exact Or.inl h1
      · exact Or.inr ⟨a, by omega, h1⟩
    · intro hp2
      rcases hp2 with h1 | ⟨a, ha, h1, h2⟩
      · exact (h p hp).mpr (Or.inl h1)
      · by_cases e : a = i
        · subst e
          rcases hi' with h3 | ⟨b, hb, h3, h4⟩
          · rw [h1] at h3; exact nomatch h3
          · exact (h p hp).mpr (Or.inr ⟨b, hb, h3, cc_trans h4 h2⟩)
        · exact (h p hp).mpr (Or.inr ⟨a, by omega, h1, h2⟩)
  · show (!so i && decide (cc_m so i = i)) = false
    rcases hi' with h3 | ⟨b, hb, h3, h4⟩
    · exact co_f (co_nt h3)
    · have := cc_min (by omega) h3 h4
      exact co_g (decide_eq_false (by omega))
theorem rm_isnew (hi : i < 216) (hs : sn i = false) (h : rm_S so i sn) : cc_f so i = true := by
  have hso : so i = false := by
    cases hx : so i
    · rfl
    · rw [(h i hi).mpr (Or.inl hx)] at hs; exact nomatch hs
  have h1 := cc_mle hi hso
  have h2 := cc_mok hi hso
  have e : cc_m so i = i := by
    by_cases e : cc_m so i = i
    · exact e
    · rw [(h i hi).mpr (Or.inr ⟨cc_m so i, by omega, h2.2.1, h2.2.2⟩)] at hs; exact nomatch hs
  exact co_t (co_nf hso) (decide_eq_true e)
theorem rm_new (hi : i < 216) (hs : sn i = false) (h : rm_S so i sn) (hw : wk_O sn i 0 sn' st) : rm_S so (i + 1) sn' := by
  obtain ⟨w1, w2, w3, w4, w5⟩ := hw
  have hso : ∀ p, p < 216 → sn p = false → so p = false := fun p hp hx => by
    cases hy : so p
    · rfl
    · rw [(h p hp).mpr (Or.inl hy)] at hx; exact nomatch hx
  intro p hp
  constructor
  · intro hp2
    have hc := (w4 (cc_R so i) cc_refl (fun x y hx hx2 hxy hy => cc_step hx hx2 hxy (hso y (ge_lt2 hxy hx2) hy))).2 p hp hp2
    rcases hc with hc | hc
    · rcases (h p hp).mp hc with h1 | ⟨a, ha, h1⟩
      · exact Or.inl h1
      · exact Or.inr ⟨a, by omega, h1⟩
    · exact Or.inr ⟨i, by omega, hso i hi hs, hc⟩
  · intro hp2
    rcases hp2 with h1 | ⟨a, ha, h1, h2⟩
    · exact w2 p hp ((h p hp).mpr (Or.inl h1))
    · by_cases e : a = i
      · subst e
        have key := h2 (fun x => x < 216 ∧ so x = false ∧ sn' x = true) ⟨hi, h1, w3⟩ (by
          rintro x y ⟨x1, x2, x3⟩ _ hxy hy
          have hy2 := ge_lt2 hxy x1
          refine ⟨hy2, hy, ?_⟩
          cases hx : sn x
          · rcases w5 x x1 x3 hx with ⟨k, hk, _⟩ | h6
            · exact absurd hk (Nat.not_lt_zero k)
            · exact h6 y hxy
          · rcases (h x x1).mp hx with h6 | ⟨b, hb, h6, h7⟩
            · rw [x2] at h6; exact nomatch h6
            · exact w2 y hy2 ((h y hy2).mpr (Or.inr ⟨b, hb, h6, cc_step h7 x1 hxy hy⟩)))
        exact key.2.2
      · exact w2 p hp ((h p hp).mpr (Or.inr ⟨a, by omega, h1, h2⟩))
end RM
end
section
/-! rooms: the component's walk -/
section RX
variable {so se ri : Nat → Bool} {la lv lo ke : Nat → Nat} {sn0 : Nat → Bool} {s0 : Nat}
theorem rx_58 {post : SX → Prop} {J : Int32 → Int32 → (Nat → Int32) → (Nat → Int32) → (Nat → Int32) → (Nat → Int32) → (Nat → Int32) → (Nat → Int32) → (Nat → Int32) → (Nat → Int32) → (Nat → Int32) → Prop} {s a m : Nat} (ha : a < 216) (hm : m ≤ 216)
    (K : ∀ w st sn, wk_J sn0 s0 a 6 w sn st → cn_t (wk_c sn) 216 + w = m → J (nI (s + 1)) (nI w) (ar_B so) (ar_N la) (ar_B se) (ar_N lv) (ar_B ri) (ar_N st) (ar_N lo) (ar_N ke) (ar_B sn)) :
    ∀ k i, i + k = 6 → ∀ n, k < n → ∀ w st sn, wk_J sn0 s0 a i w sn st → cn_t (wk_c sn) 216 + w = m → wX_walk_58 post J (nI s) (nI a) n (nI i) (nI w) (ar_B so) (ar_N la) (ar_B se) (ar_N lv) (ar_B ri) (ar_N st) (ar_N lo) (ar_N ke) (ar_B sn) := by
  intro k
  induction k with
  | zero =>
    intro i hi n hn w st sn hJ hc
    obtain ⟨n, rfl⟩ : ∃ m, n = m + 1 := ⟨n - 1, by omega⟩
    obtain rfl : i = 6 := by omega
    exact br_t (nI_le (a := 6) (b := 6) (by omega) (by decide)) (nm_r (nI_1 s) (K w st sn hJ hc))
  | succ k ih =>
    intro i hi n hn w st sn hJ hc
    obtain ⟨n, rfl⟩ : ∃ m, n = m + 1 := ⟨n - 1, by omega⟩
    refine br_f (nI_ge (a := i) (b := 6) (by omega) (by decide)) ?_
    refine xn_nb a i ha (by omega) rfl rfl (fun hN => ?_) (fun d hd hd2 => ?_)
    · exact br_t rfl (nm_r (nI_1 i) (ih (i + 1) (by omega) n (by omega) w st sn (wk_keep (fun d h => by rw [hN] at h; exact nomatch h) hJ) hc))
    · have cd : (nI d).toNatClampNeg = d := nI_clamp (by omega)
      have ii : vp_in (nI d) 216 := vp_in_nI hd2 (by decide)
      refine br_f (ar_m1 (by omega)) ⟨ii, ar_br d cd (fun hs => ?_) (fun hs => ?_)⟩
      · have hp := wk_cp hd2 hs
        have hq := wk_cd hd2 hs
        exact ⟨ii, nm_r (ar_wT cd) ⟨vp_in_nI (by omega) (by decide), nm_r (ar_wN (nI_clamp (by omega)) rfl) (nm_r (nI_1 w) (nm_r (nI_1 i) (ih (i + 1) (by omega) n (by omega) (w + 1) _ _ (wk_push ha (by omega) hd hs hJ) (by omega))))⟩⟩
      · exact nm_r (nI_1 i) (ih (i + 1) (by omega) n (by omega) w st sn (wk_keep (fun d' h => by rw [hd] at h; cases h; exact hs) hJ) hc)
theorem rx_21 {post : SX → Prop} (K : ∀ w st sn, wk_O sn0 s0 0 sn st → post (nI w, ar_B so, ar_N la, ar_B se, ar_N lv, ar_B ri, ar_N st, ar_N lo, ar_N ke, ar_B sn)) :
    ∀ k s, s + k = 216 → ∀ n, k < n → ∀ w st sn, wk_O sn0 s0 w sn st → cn_t (wk_c sn) 216 + w ≤ k → wX_walk_21 post n (nI s) (nI w) (ar_B so) (ar_N la) (ar_B se) (ar_N lv) (ar_B ri) (ar_N st) (ar_N lo) (ar_N ke) (ar_B sn) := by
  intro k
  induction k with
  | zero =>
    intro s hs n hn w st sn hJ hc
    obtain ⟨n, rfl⟩ : ∃ m, n = m + 1 := ⟨n - 1, by omega⟩
    obtain rfl : w = 0 := by omega
    exact br_t (nI_le (a := 216) (b := s) (by omega) (by omega)) (K 0 st sn hJ)
  | succ k ih =>
    intro s hs n hn w st sn hJ hc
    obtain ⟨n, rfl⟩ : ∃ m, n = m + 1 := ⟨n - 1, by omega⟩
    refine br_f (nI_ge (a := s) (b := 216) (by omega) (by decide)) ?_
    refine pk_le w 0 (fun h0 => ?_) (fun h0 => ?_)
    · obtain rfl : w = 0 := by omega
      exact K 0 st sn hJ
    · obtain ⟨v, rfl⟩ : ∃ v, w = v + 1 := ⟨w - 1, by omega⟩
      have cv : (nI v).toNatClampNeg = v := nI_clamp (by omega)
      have iv : vp_in (nI v) 432 := vp_in_nI (by omega) (by decide)
      have hst := hJ.1 v (by omega)
      refine nm_r (nI_pred v) ⟨iv, nm_r (ar_at cv) ⟨7, ?_⟩⟩
      exact rx_58 (m := cn_t (wk_c sn) 216 + v) hst (by omega) (fun w' st' sn' hJ' hc' => ih (s + 1) (by omega) n (by omega) w' st' sn' (wk_out hJ') (by omega)) 6 0 rfl 7 (by decide) v st sn (wk_pop hJ) rfl
theorem rx_walk {post : SX → Prop} {w : Nat} {st : Nat → Nat} (hs : s0 < 216) (h0 : sn0 s0 = false) (K : ∀ w st sn, wk_O sn0 s0 0 sn st → post (nI w, ar_B so, ar_N la, ar_B se, ar_N lv, ar_B ri, ar_N st, ar_N lo, ar_N ke, ar_B sn)) : wpX_walk post (nI w, ar_B so, ar_N la, ar_B se, ar_N lv, ar_B ri, ar_N st, ar_N lo, ar_N ke, ar_B sn0) (nI s0) := by
  have hq := wk_cd hs h0
  have hle := cn_le (wk_c sn0) 216
  refine nm_r (ar_updN st 0 s0) ⟨vp_in_nI hs (by decide), nm_r (ar_wT (nI_clamp (by omega))) ⟨217, ?_⟩⟩
  exact rx_21 K 216 0 rfl 217 (by decide) 1 _ _ (wk_0 hs h0) (by omega)
theorem rx_31 {post : Int32 → SX → Prop} (K : ∀ w st sn, post (nI (cn_t (cc_f so) 216)) (nI w, ar_B so, ar_N la, ar_B se, ar_N lv, ar_B ri, ar_N st, ar_N lo, ar_N ke, ar_B sn)) :
    ∀ j i, i + j = 216 → ∀ n, j < n → ∀ w st sn, rm_S so i sn → wX_rooms_31 post n (nI (cn_t (cc_f so) i)) (nI i) (nI w) (ar_B so) (ar_N la) (ar_B se) (ar_N lv) (ar_B ri) (ar_N st) (ar_N lo) (ar_N ke) (ar_B sn) := by
  intro j
  induction j with
  | zero =>
    intro i hi n hn w st sn hS
    obtain ⟨n, rfl⟩ : ∃ m, n = m + 1 := ⟨n - 1, by omega⟩
    obtain rfl : i = 216 := by omega
    exact br_t (nI_le (a := 216) (b := 216) (by omega) (by omega)) (K w st sn)
  | succ j ih =>
    intro i hi n hn w st sn hS
    obtain ⟨n, rfl⟩ : ∃ m, n = m + 1 := ⟨n - 1, by omega⟩
    have hi2 : i < 216 := by omega
    refine br_f (nI_ge (a := i) (b := 216) (by omega) (by decide)) ⟨vp_in_nI hi2 (by decide), ar_br i (nI_clamp (by omega)) (fun hs => nm_r (nI_1 _) ?_) (fun hs => nm_r (nI_1 i) ?_)⟩
    · refine rx_walk hi2 hs (fun w' st' sn' hO => nm_r (nI_1 i) ?_)
      have h1 := ih (i + 1) (by omega) n (by omega) w' st' sn' (rm_new hi2 hs hS hO)
      rw [cn_s (rm_isnew hi2 hs hS)] at h1
      exact h1
    · obtain ⟨h1, h2⟩ := rm_old hi2 hs hS
      have h3 := ih (i + 1) (by omega) n (by omega) w st sn h1
      rw [cn_n h2] at h3
      exact h3
theorem rx_2 {post : Int32 → SX → Prop} {w : Nat} {st : Nat → Nat} (K : ∀ w st sn, post (nI (cn_t (cc_f so) 216)) (nI w, ar_B so, ar_N la, ar_B se, ar_N lv, ar_B ri, ar_N st, ar_N lo, ar_N ke, ar_B sn)) :
    ∀ j i, i + j = 216 → ∀ n, j < n → ∀ sn, (∀ p, p < i → sn p = so p) → wX_rooms_2 post (nI w) n (nI i) (ar_B so) (ar_N la) (ar_B se) (ar_N lv) (ar_B ri) (ar_N st) (ar_N lo) (ar_N ke) (ar_B sn) := by
  intro j
  induction j with
  | zero =>
    intro i hi n hn sn h
    obtain ⟨n, rfl⟩ : ∃ m, n = m + 1 := ⟨n - 1, by omega⟩
    obtain rfl : i = 216 := by omega
    exact br_t (nI_le (a := 216) (b := 216) (by omega) (by omega)) ⟨217, rx_31 K 216 0 rfl 217 (by decide) w st sn (rm_0 h)⟩
  | succ j ih =>
    intro i hi n hn sn h
    obtain ⟨n, rfl⟩ : ∃ m, n = m + 1 := ⟨n - 1, by omega⟩
    have ci : (nI i).toNatClampNeg = i := nI_clamp (by omega)
    have ii : vp_in (nI i) 216 := vp_in_nI (by omega) (by decide)
    refine br_f (nI_ge (a := i) (b := 216) (by omega) (by decide)) ⟨ii, ii, nm_r (e' := ar_B (ar_u sn i (so i))) ?_ (nm_r (nI_1 i) (ih (i + 1) (by omega) n (by omega) _ (fun p hp => ?_)))⟩
    · rw [ci, ar_Be]; exact ar_updB sn i (so i)
    · by_cases e : p = i
      · subst e; exact ar_us
      · rw [ar_un e]; exact h p (by omega)
end RX
end
section
/-! rooms: the reference's labels; the last owed case -/
section RY
variable {so : Nat → Bool} {la lg sg yk lb0 : Nat → Nat}
theorem ry_4 {post : Int32 → SY → Prop} (K : ∀ mo lb, lb_P so lb0 1296 lb → (mo = false → lb = lb0) → post (ar_b mo) (ar_B so, ar_N la, ar_N lg, ar_N sg, ar_N lb, ar_N yk)) :
    ∀ j k, k + j = 1296 → ∀ n, j < n → ∀ mo lb, lb_P so lb0 k lb → (mo = false → lb = lb0) → wY_level_4 post n (ar_b mo) (nI k) (ar_B so) (ar_N la) (ar_N lg) (ar_N sg) (ar_N lb) (ar_N yk) := by
  intro j
  induction j with
  | zero =>
    intro k hk n hn mo lb hp hm
    obtain ⟨n, rfl⟩ : ∃ m, n = m + 1 := ⟨n - 1, by omega⟩
    obtain rfl : k = 1296 := by omega
    refine br_t (nI_le (a := 1296) (b := 1296) (by omega) (by omega)) ⟨?_, K mo lb hp hm⟩
    cases mo <;> rfl
  | succ j ih =>
    intro k hk n hn mo lb hp hm
    obtain ⟨n, rfl⟩ : ∃ m, n = m + 1 := ⟨n - 1, by omega⟩
    obtain ⟨c, t, ht, rfl⟩ : ∃ c t, t < 6 ∧ k = 6 * c + t := ⟨k / 6, k % 6, by omega, by omega⟩
    have hc : c < 216 := by omega
    have ed : nI (6 * c + t) / 6 = nI c := by
      have := pk_div (a := 6 * c + t) (d := 6) (by omega) (by decide) (by decide)
      rw [show (6 * c + t) / 6 = c by omega] at this; exact this
    have er : nI (6 * c + t) - nI (6 * c + t) / 6 * 6 = nI t := by
      have := pk_rem (a := 6 * c + t) (d := 6) (by omega) (by decide) (by decide)
      rw [show (6 * c + t) % 6 = t by omega] at this; exact this
    have e1 : nI (6 * c + t) + 1 = nI (6 * c + t + 1) := nI_1 _
    have cc : (nI c).toNatClampNeg = c := nI_clamp (by omega)
    have ic : vp_in (nI c) 216 := vp_in_nI hc (by decide)
    have I0 : (∀ d, so c = false → ge_nb c (ge_fl t) = some d → so d = false → d < 216 ∧ lb c ≤ lb d) → wY_level_4 post n (ar_b mo) (nI (6 * c + t + 1)) (ar_B so) (ar_N la) (ar_N lg) (ar_N sg) (ar_N lb) (ar_N yk) := fun h => ih (6 * c + t + 1) (by omega) n (by omega) mo lb (lb_keep ht h hp) hm
    refine br_f (nI_ge (a := 6 * c + t) (b := 1296) (by omega) (by decide)) ⟨by decide, nm_r ed ⟨by decide, yn_bs c t hc ht rfl er (fun hN => ?_) (fun d hd hd2 => ?_)⟩⟩
    · exact br_t (by decide) (nm_r e1 (I0 (fun d _ h => by rw [hN] at h; exact nomatch h)))
    · have cd : (nI d).toNatClampNeg = d := nI_clamp (by omega)
      have id' : vp_in (nI d) 216 := vp_in_nI hd2 (by decide)
      refine br_f (nI_pos (by omega)) ⟨ic, ar_br c cc (fun hs => ⟨id', ar_br d cd (fun hsd => ⟨id', ic, ?_⟩) (fun hsd => nm_r e1 (I0 (fun d' _ h h2 => by rw [hd] at h; cases h; rw [hsd] at h2; exact nomatch h2)))⟩) (fun hs => nm_r e1 (I0 (fun d' h => by rw [hs] at h; exact nomatch h)))⟩
      have b1 := hp.1 c hc hs
      have b2 := hp.1 d hd2 hsd
      refine pk_lt (lb d) (lb c) (fun h => ⟨id', ic, nm_r (ar_wN cc (ar_at cd)) (nm_r e1 ?_)⟩) (fun h => nm_r e1 (I0 (fun d' _ h1 _ => by rw [hd] at h1; cases h1; exact ⟨hd2, h⟩))) (ar_at cd) (ar_at cc)
      exact ih (6 * c + t + 1) (by omega) n (by omega) true _ (lb_set hc ht hs hd hsd h hp) (fun z => nomatch z)
theorem ry_level {post : Int32 → SY → Prop} (h0 : lb_K so lb0) (K : ∀ mo lb, lb_P so lb0 1296 lb → (mo = false → lb = lb0) → post (ar_b mo) (ar_B so, ar_N la, ar_N lg, ar_N sg, ar_N lb, ar_N yk)) : wpY_level post (ar_B so, ar_N la, ar_N lg, ar_N sg, ar_N lb0, ar_N yk) :=
  ⟨1297, ry_4 K 1296 0 rfl 1297 (by decide) false lb0 (lb_P0 h0) (fun _ => rfl)⟩
theorem ry_52 {post : Int32 → SY → Prop} {lb : Nat → Nat} (h : ∀ c, c < 216 → lb_D so lb c = true) (hK : lb_K so lb) (K : post (nI (cn_t (cc_f so) 216)) (ar_B so, ar_N la, ar_N lg, ar_N sg, ar_N lb, ar_N yk)) :
    ∀ j i, i + j = 216 → ∀ n, j < n → wY_rooms_52 post (ar_B so) (ar_N la) (ar_N lg) (ar_N sg) (ar_N lb) (ar_N yk) n (nI (cn_t (cc_f so) i)) (nI i) := by
  intro j
  induction j with
  | zero =>
    intro i hi n hn
    obtain ⟨n, rfl⟩ : ∃ m, n = m + 1 := ⟨n - 1, by omega⟩
    obtain rfl : i = 216 := by omega
    exact br_t (nI_le (a := 216) (b := 216) (by omega) (by omega)) K
  | succ j ih =>
    intro i hi n hn
    obtain ⟨n, rfl⟩ : ∃ m, n = m + 1 := ⟨n - 1, by omega⟩
    have hi2 : i < 216 := by omega
    have ci : (nI i).toNatClampNeg = i := nI_clamp (by omega)
    have ii : vp_in (nI i) 216 := vp_in_nI hi2 (by decide)
    have I0 : cc_f so i = false → wY_rooms_52 post (ar_B so) (ar_N la) (ar_N lg) (ar_N sg) (ar_N lb) (ar_N yk) n (nI (cn_t (cc_f so) i)) (nI (i + 1)) := fun h => by
      have h1 := ih (i + 1) (by omega) n (by omega)
      rw [cn_n h] at h1; exact h1
    have I1 : cc_f so i = true → wY_rooms_52 post (ar_B so) (ar_N la) (ar_N lg) (ar_N sg) (ar_N lb) (ar_N yk) n (nI (cn_t (cc_f so) i + 1)) (nI (i + 1)) := fun h => by
      have h1 := ih (i + 1) (by omega) n (by omega)
      rw [cn_s h] at h1; exact h1
    refine br_f (nI_ge (a := i) (b := 216) (by omega) (by decide)) ⟨ii, ar_br i ci (fun hs => ⟨ii, ?_⟩) (fun hs => nm_r (nI_1 i) (I0 (co_f (co_nt hs))))⟩
    have e := lb_De (h i hi2) hs
    have hb := hK i hi2 hs
    refine pk_eq (lb i) i (fun h => nm_r (nI_1 _) (nm_r (nI_1 i) (I1 (co_t (co_nf hs) (decide_eq_true (by omega)))))) (fun h => nm_r (nI_1 i) (I0 (co_g (decide_eq_false (by omega))))) (ar_at ci)
theorem ry_26 {post : Int32 → SY → Prop} (K : ∀ lb, post (nI (cn_t (cc_f so) 216)) (ar_B so, ar_N la, ar_N lg, ar_N sg, ar_N lb, ar_N yk)) :
    ∀ j k, k + j = 216 → ∀ n, j < n → ∀ mo lb, lb_Q so k lb → (mo = false → ∀ c, c < 216 → lb_D so lb c = true) → wY_rooms_26 post n (ar_b mo) (nI k) (ar_B so) (ar_N la) (ar_N lg) (ar_N sg) (ar_N lb) (ar_N yk) := by
  intro j
  induction j with
  | zero =>
    intro k hk n hn mo lb hQ hm
    obtain ⟨n, rfl⟩ : ∃ m, n = m + 1 := ⟨n - 1, by omega⟩
    obtain rfl : k = 216 := by omega
    exact br_t (nI_le (a := 216) (b := 216) (by omega) (by omega)) ⟨217, ry_52 (lb_fin hQ) hQ.1 (K lb) 216 0 rfl 217 (by decide)⟩
  | succ j ih =>
    intro k hk n hn mo lb hQ hm
    obtain ⟨n, rfl⟩ : ∃ m, n = m + 1 := ⟨n - 1, by omega⟩
    refine br_f (nI_ge (a := k) (b := 216) (by omega) (by decide)) (ar_brb (fun e => ⟨217, ry_52 (hm e) hQ.1 (K lb) 216 0 rfl 217 (by decide)⟩) (fun e => ?_))
    refine ry_level hQ.1 (fun mo' lb' hP hm' => ?_)
    refine nm_r (nI_1 k) (ih (k + 1) (by omega) n (by omega) mo' lb' (lb_next hQ hP) (fun z => ?_))
    have e2 := hm' z
    subst e2
    exact lb_stop hQ.1 hP
theorem ry_2 {post : Int32 → SY → Prop} (K : ∀ lb, post (nI (cn_t (cc_f so) 216)) (ar_B so, ar_N la, ar_N lg, ar_N sg, ar_N lb, ar_N yk)) :
    ∀ j i, i + j = 216 → ∀ n, j < n → ∀ lb, (∀ c, c < i → lb c = c) → wY_rooms_2 post n (nI i) (ar_B so) (ar_N la) (ar_N lg) (ar_N sg) (ar_N lb) (ar_N yk) := by
  intro j
  induction j with
  | zero =>
    intro i hi n hn lb h
    obtain ⟨n, rfl⟩ : ∃ m, n = m + 1 := ⟨n - 1, by omega⟩
    obtain rfl : i = 216 := by omega
    refine br_t (nI_le (a := 216) (b := 216) (by omega) (by omega)) ⟨217, ry_26 K 216 0 rfl 217 (by decide) true lb ⟨fun c hc hs => ?_, Or.inl (Nat.zero_le _)⟩ (fun z => nomatch z)⟩
    rw [h c hc]
    exact ⟨hc, hs, cc_refl, Nat.le_refl c⟩
  | succ j ih =>
    intro i hi n hn lb h
    obtain ⟨n, rfl⟩ : ∃ m, n = m + 1 := ⟨n - 1, by omega⟩
    refine br_f (nI_ge (a := i) (b := 216) (by omega) (by decide)) ⟨vp_in_nI (by omega) (by decide), nm_r (ar_wN (nI_clamp (by omega)) rfl) (nm_r (nI_1 i) (ih (i + 1) (by omega) n (by omega) _ (fun c hc => ?_)))⟩
    by_cases e : c = i
    · subst e; exact ar_us
    · rw [ar_un e]; exact h c (by omega)
end RY
theorem i_vc_rooms {k : Nat} {u : SX} {v : SY} (I : i_Rel k u v) (hk : k + 4 ≤ 2048) : wpX_rooms (fun r u' => wpY_rooms (fun r' v' => r' = r ∧ i_Rel (k + 4) u' v') v) u := by
  refine rl_el (P := fun u v => wpX_rooms (fun r u' => wpY_rooms (fun r' v' => r' = r ∧ i_Rel (k + 4) u' v') v) u) ?_ I
  intro w so la se lv ri st lo ke sn lg sg lb yk I
  unfold wpX_rooms wpY_rooms
  dsimp only
  refine ⟨217, rx_2 (fun w st sn => ?_) 216 0 rfl 217 (by decide) sn (fun p hp => absurd hp (Nat.not_lt_zero p))⟩
  exact ⟨217, ry_2 (fun lb => ⟨rfl, rl_mk I⟩) 216 0 rfl 217 (by decide) lb (fun c hc => absurd hc (Nat.not_lt_zero c))⟩
end
