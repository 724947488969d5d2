section
theorem pk_us {f : Nat → Int32} {k : Nat} {x : Int32} : upd f k x k = x := if_pos rfl
theorem pk_un {f : Nat → Int32} {k j : Nat} {x : Int32} (h : j ≠ k) : upd f k x j = f j := if_neg h
theorem pk_sub {a b : Nat} (h : b ≤ a) : nI a - nI b = nI (a - b) := by
  obtain ⟨c, rfl⟩ : ∃ c, a = c + b := ⟨a - b, by omega⟩
  rw [← nI_add, Int32.add_sub_cancel, Nat.add_sub_cancel]
theorem pk_m1 (n : Nat) : nI (n + 1) + (-1) = nI n := by
  rw [← nI_1, Int32.add_assoc, show (1 : Int32) + (-1) = 0 from rfl, Int32.add_zero]
theorem pk_mul (a b : Nat) : nI a * nI b = nI (a * b) := (Int32.ofNat_mul a b).symm
theorem pk_div {a d : Nat} (ha : a < 2 ^ 31) (h0 : 0 < d) (hd : d < 2 ^ 31) : nI a / nI d = nI (a / d) := by
  apply Int32.toInt_inj.mp
  rw [lg_idiv_nonneg (by rw [nI_toInt ha]; omega) (by rw [nI_toInt hd]; omega), nI_toInt ha, nI_toInt hd, nI_toInt (Nat.lt_of_le_of_lt (Nat.div_le_self a d) ha)]
  first | rfl | exact (Int.natCast_ediv _ _).symm
theorem pk_rem {a d : Nat} (ha : a < 2 ^ 31) (h0 : 0 < d) (hd : d < 2 ^ 31) : nI a - nI a / nI d * nI d = nI (a % d) := by
  rw [pk_div ha h0 hd, pk_mul, pk_sub (Nat.div_mul_le_self a d)]
  exact congrArg nI (by have := Nat.div_add_mod' a d; omega)
theorem pk_sub_toInt {a b : Nat} (ha : a < 2 ^ 30) (hb : b < 2 ^ 30) : (nI a - nI b).toInt = (a : Int) - b := by
  rw [Int32.toInt_sub, nI_toInt (by omega), nI_toInt (by omega)]
  exact Int.bmod_eq_of_le (by omega) (by omega)
theorem pk_sneg {a b : Nat} (hb : b < 2 ^ 30) (h : a < b) : nI a - nI b < 0 := by
  rw [Int32.lt_iff_toInt_lt, pk_sub_toInt (by omega) hb, show (0 : Int32).toInt = 0 from by decide]
  omega
theorem pk_ix (x : Int32) {n : Nat} (hn : n < 2 ^ 31) : x < 0 ∨ nI n ≤ x ∨ ∃ j : Nat, j < n ∧ x = nI j := by
  by_cases h : x < 0
  · exact Or.inl h
  · obtain ⟨j, hj, rfl⟩ := nI_of h
    by_cases h2 : j < n
    · exact Or.inr (Or.inr ⟨j, h2, rfl⟩)
    · exact Or.inr (Or.inl (nI_le (by omega) hj))
theorem pk_le {x y : Int32} {A B : Prop} (a b : Nat) (f : a ≤ b → A) (g : b < a → B) (hx : x = nI a := by rfl) (hy : y = nI b := by rfl) (ha : a < 2 ^ 31 := by omega) (hb : b < 2 ^ 31 := by omega) : (x ≤ y → A) ∧ (¬ x ≤ y → B) := by
  subst hx hy
  rw [nI_leI ha hb]
  exact ⟨f, fun z => g (by omega)⟩
theorem pk_lt {x y : Int32} {A B : Prop} (a b : Nat) (f : a < b → A) (g : b ≤ a → B) (hx : x = nI a := by rfl) (hy : y = nI b := by rfl) (ha : a < 2 ^ 31 := by omega) (hb : b < 2 ^ 31 := by omega) : (x < y → A) ∧ (¬ x < y → B) := by
  subst hx hy
  rw [nI_ltI ha hb]
  exact ⟨f, fun z => g (by omega)⟩
theorem pk_eq {x y : Int32} {A B : Prop} (a b : Nat) (f : a = b → A) (g : a ≠ b → B) (hx : x = nI a := by rfl) (hy : y = nI b := by rfl) (ha : a < 2 ^ 31 := by omega) (hb : b < 2 ^ 31 := by omega) : (x = y → A) ∧ (¬ x = y → B) := by
  subst hx hy
  rw [nI_eq ha hb]
  exact ⟨f, g⟩
theorem pk_in {x : Int32} (n N : Nat) (h : n < N) (hx : x = nI n := by rfl) (hN : N < 2 ^ 31 := by omega) : vp_in x N := by
  subst hx
  exact vp_in_nI h hN
theorem pk_cl {x : Int32} (n : Nat) (hx : x = nI n := by rfl) (h : n < 2 ^ 31 := by omega) : x.toNatClampNeg = n := by
  subst hx
  exact nI_clamp h
theorem pk_tn {n : Nat} (h : n < 2 ^ 32) : (nI n).toBitVec.toNat = n := Nat.mod_eq_of_lt h
theorem pk_and (x : Int32) {m : Int32} (k : Nat) (hm : m.toBitVec.toNat = 2 ^ k - 1) : x &&& m = nI (x.toBitVec.toNat % 2 ^ k) := by
  apply Int32.toBitVec_inj.mp
  apply BitVec.eq_of_toNat_eq
  rw [Int32.toBitVec_and, BitVec.toNat_and, hm, Nat.and_two_pow_sub_one_eq_mod]
  show _ = (BitVec.ofNat 32 _).toNat
  rw [BitVec.toNat_ofNat]
  exact (Nat.mod_eq_of_lt (Nat.lt_of_le_of_lt (Nat.mod_le _ _) x.toBitVec.isLt)).symm
theorem pk_andN {n : Nat} (h : n < 2 ^ 32) {m : Int32} (k : Nat) (hm : m.toBitVec.toNat = 2 ^ k - 1) : nI n &&& m = nI (n % 2 ^ k) := by
  rw [pk_and _ k hm, pk_tn h]
theorem pk_shr (a s : Int32) (k : Nat) (hs : (s.toBitVec.smod 32).toNat = k) : (a >>> s).toInt = a.toInt >>> k := by
  show (a.toBitVec.sshiftRight (s.toBitVec.smod 32).toNat).toInt = _
  rw [hs, BitVec.toInt_sshiftRight]
  rfl
theorem pk_shrN {n : Nat} (h : n < 2 ^ 31) (s : Int32) (k : Nat) (hs : (s.toBitVec.smod 32).toNat = k) : nI n >>> s = nI (n / 2 ^ k) := by
  apply Int32.toInt_inj.mp
  have h2 : n / 2 ^ k ≤ n := Nat.div_le_self _ _
  rw [pk_shr _ _ k hs, nI_toInt h, nI_toInt (by omega), Int.shiftRight_eq_div_pow]
  rfl
theorem pk_least (P : Nat → Prop) (h : ∃ k, P k) : ∃ k, P k ∧ ∀ j, j < k → ¬ P j := by
  obtain ⟨k, hk⟩ := h
  induction k using Nat.strongRecOn with
  | ind k ih =>
    by_cases e : ∃ j, j < k ∧ P j
    · obtain ⟨j, hj, pj⟩ := e
      exact ih j hj pj
    · exact ⟨k, hk, fun j hj pj => e ⟨j, hj, pj⟩⟩
end
section
/-! numbers, bits and branches of this claim -/
def fr_E (e : Nat → Nat) : Nat → Int32 := fun j => nI (e j)
abbrev fr_sub (a b : Nat) : Prop := a &&& b = a
theorem fr_ix2 (s a : Nat) : 2 * nI s + nI a = nI (2 * s + a) := by
  rw [show (2 : Int32) = nI 2 from rfl, pk_mul, nI_add]
theorem fr_ix5 (s a : Nat) : 5 * nI s + nI a = nI (5 * s + a) := by
  rw [show (5 : Int32) = nI 5 from rfl, pk_mul, nI_add]
theorem fr_ix8 (s a : Nat) : 8 * nI s + nI a = nI (8 * s + a) := by
  rw [show (8 : Int32) = nI 8 from rfl, pk_mul, nI_add]
theorem fr_t2 (s : Nat) : 2 * nI s = nI (2 * s) := by
  rw [show (2 : Int32) = nI 2 from rfl, pk_mul]
theorem fr_pr {k : Nat} (h : 0 < k) : nI k - 1 = nI (k - 1) := by
  obtain ⟨t, rfl⟩ : ∃ t, k = t + 1 := ⟨k - 1, by omega⟩
  exact nI_pred t
theorem fr_ne1 {k : Nat} (hk : k < 2 ^ 31) : ¬ nI k = -1 := by
  intro h3
  have h4 := congrArg Int32.toInt h3
  rw [nI_toInt hk, show (-1 : Int32).toInt = -1 from by decide] at h4
  omega
theorem fr_neM {k : Nat} (hk : k < 2 ^ 31) (h : 0 < k) : ¬ nI k - 1 = -1 := by
  rw [fr_pr h]
  exact fr_ne1 (by omega)
theorem fr_brM {k : Nat} {A B : Prop} (hk : k < 2 ^ 31) (f : k = 0 → A) (g : 0 < k → B) : (nI k - 1 = -1 → A) ∧ (¬ nI k - 1 = -1 → B) := by
  by_cases h : k = 0
  · subst h
    exact br_t (by decide) (f rfl)
  · exact br_f (fr_neM hk (by omega)) (g (by omega))
theorem fr_brE {j k : Nat} {A B : Prop} (hj : j < 2 ^ 31) (hk : k < 2 ^ 31) (f : j = k → A) (g : j ≠ k → B) : (nI j - 1 = nI k - 1 → A) ∧ (¬ nI j - 1 = nI k - 1 → B) := by
  by_cases h : j = k
  · subst h
    exact br_t rfl (f rfl)
  · refine br_f (fun z => h ?_) (g h)
    have z2 : nI j - 1 + 1 = nI k - 1 + 1 := by rw [z]
    rw [Int32.sub_add_cancel, Int32.sub_add_cancel] at z2
    exact (nI_eq hj hk).mp z2
theorem fr_if {c d A B : Prop} (i : c ↔ d) (f : d → A) (g : ¬ d → B) : (c → A) ∧ (¬ c → B) := ⟨fun z => f (i.mp z), fun z => g (fun y => z (i.mpr y))⟩
theorem fr_01 : ¬ (1 : Int32) = 0 := by decide
theorem fr_m10 : ¬ (-1 : Int32) = 0 := by decide
theorem fr_30 : ¬ (3 : Int32) = 0 := by decide
theorem fr_bitT : ∀ c, c < 32 → ∀ s, s < 5 → (((nI c >>> (nI s &&& 31)) &&& 1) = 1 ↔ c.testBit s = true) := by decide +kernel
theorem fr_subX : ∀ a, a < 32 → ∀ b, b < 32 → ((nI a &&& (nI b ^^^ (-1))) = 0 ↔ a &&& b = a) := by decide +kernel
theorem fr_subY : ∀ a, a < 32 → ∀ b, b < 32 → ((nI b &&& nI a) = nI a ↔ a &&& b = a) := by decide +kernel
theorem fr_orT : ∀ a, a < 32 → ∀ b, b < 32 → nI a ||| nI b = nI (a ||| b) := by decide +kernel
theorem fr_shT : ∀ t, t < 20 → (1 : Int32) <<< (nI t &&& 31) = nI (2 ^ t) := by decide +kernel
theorem fr_sl : ∀ n, n < 32 → ((nI n &&& 31).toBitVec.smod 32).toNat = n := by decide +kernel
theorem fr_pairs : ∀ N, N < 6 → 2 ≤ N → (nI N * (nI N - 1)) / 2 = nI (N * (N - 1) / 2) := by decide +kernel
theorem fr_half : ∀ k, k < 16 → nI k >>> ((1 : Int32) &&& 31) = nI (k / 2) := by decide +kernel
theorem fr_par : ∀ k, k < 16 → nI k &&& 1 = nI (k % 2) := by decide +kernel
theorem fr_full : ∀ N, N < 6 → nI (2 ^ N) - 1 = nI (2 ^ N - 1) := by decide +kernel
theorem fr_and1 {n : Nat} (h : n < 2 ^ 32) : nI n &&& 1 = nI (n % 2) := pk_andN h 1 (by decide)
theorem fr_bitw {w k : Nat} (hw : w < 2 ^ 31) (hk : k < 32) : (nI w >>> (nI k &&& 31)) &&& 1 = nI (w / 2 ^ k % 2) := by
  rw [pk_shrN hw _ k (fr_sl k hk), fr_and1 (Nat.lt_of_le_of_lt (Nat.div_le_self _ _) (by omega))]
theorem fr_or32 {a b : Nat} (ha : a < 32) (hb : b < 32) : a ||| b < 32 := Nat.or_lt_two_pow (n := 5) ha hb
theorem fr_p32 {N : Nat} (h : N ≤ 5) : 2 ^ N ≤ 32 := Nat.pow_le_pow_right (by decide) h
theorem fr_p32' {t : Nat} (h : t < 5) : 2 ^ t < 32 := Nat.pow_lt_pow_right (by decide) h
theorem fr_sub_iff {a b : Nat} : fr_sub a b ↔ ∀ x, a.testBit x = true → b.testBit x = true := by
  constructor
  · intro h x hx
    have h2 : (a &&& b).testBit x = true := by rw [h]; exact hx
    rw [Nat.testBit_and] at h2
    exact (Bool.and_eq_true_iff.mp h2).2
  · intro h
    apply Nat.eq_of_testBit_eq
    intro x
    rw [Nat.testBit_and]
    by_cases hx : a.testBit x = true
    · rw [hx, h x hx]; rfl
    · rw [Bool.eq_false_iff.mpr hx]; rfl
theorem fr_sub_le {a b : Nat} (h : fr_sub a b) : a ≤ b := by
  have h2 : a &&& b ≤ b := Nat.and_le_right
  rw [h] at h2
  exact h2
theorem fr_sub_0 (b : Nat) : fr_sub 0 b := Nat.zero_and b
theorem fr_sub_to0 {a : Nat} (h : fr_sub a 0) : a = 0 := by
  have h2 := fr_sub_le h
  omega
theorem fr_one {P : Nat → Prop} (h0 : P 0) (h1 : P 1) {a : Nat} (ha : a < 2) : P a := by
  have : a = 0 ∨ a = 1 := by omega
  rcases this with rfl | rfl
  · exact h0
  · exact h1
/-- a store where the index is within -/
theorem fr_in {P : Prop} {x : Int32} {n N : Nat} (hx : x = nI n) (h : n < N) (hN : N < 2 ^ 31) (hp : P) : vp_in x N ∧ P := by
  subst hx
  exact ⟨vp_in_nI h hN, hp⟩
theorem fr_bf {b : Bool} (h : ¬ b = true) : b = false := Bool.eq_false_iff.mpr h
theorem fr_inj {N s t s' t' : Nat} (ht : t < N) (ht' : t' < N) (h : N * s + t = N * s' + t') : s = s' ∧ t = t' := by
  have h1 : (N * s + t) / N = s := by rw [Nat.mul_add_div (by omega), Nat.div_eq_of_lt ht]; rfl
  have h2 : (N * s' + t') / N = s' := by rw [Nat.mul_add_div (by omega), Nat.div_eq_of_lt ht']; rfl
  have h3 : s = s' := by rw [← h1, ← h2, h]
  subst h3
  exact ⟨rfl, by omega⟩
theorem fr_split {N k : Nat} (h : k < N * N) : ∃ s t, s < N ∧ t < N ∧ k = N * s + t :=
  ⟨k / N, k % N, Nat.div_lt_of_lt_mul h, Nat.mod_lt _ (Nat.pos_of_ne_zero (fun z => by subst z; omega)), (Nat.div_add_mod k N).symm⟩
theorem fr_lin {N s t : Nat} (hs : s < N) (ht : t < N) : N * s + t < N * N := by
  have h : N * s + N ≤ N * N := by
    rw [← Nat.mul_succ]
    exact Nat.mul_le_mul_left N hs
  omega
theorem fr_sq {N : Nat} (h : N ≤ 5) : N * N ≤ 25 := Nat.mul_le_mul h h
theorem fr_div {N s t : Nat} (h5 : N ≤ 5) (hs : s < N) (ht : t < N) : nI (N * s + t) / nI N = nI s := by
  have h1 := fr_lin hs ht
  have h2 := fr_sq h5
  rw [pk_div (by omega) (by omega) (by omega), Nat.mul_add_div (by omega), Nat.div_eq_of_lt ht]
  rfl
theorem fr_rem {N s t : Nat} (h5 : N ≤ 5) (hs : s < N) (ht : t < N) : nI (N * s + t) - nI (N * s + t) / nI N * nI N = nI t := by
  have h1 := fr_lin hs ht
  have h2 := fr_sq h5
  rw [pk_rem (by omega) (by omega) (by omega), Nat.mul_add_mod, Nat.mod_eq_of_lt ht]
end
section
/-! the machine: next, output, splitting words, levels -/
def fr_nx (e : Nat → Nat) (s a : Nat) : Nat := e (2 * s + a) / 3
def fr_ou (e : Nat → Nat) (s a : Nat) : Nat := e (2 * s + a) % 3
def fr_od (e : Nat → Nat) (a s t : Nat) : Bool := decide (0 < fr_ou e s a ∧ 0 < fr_ou e t a ∧ fr_ou e s a ≠ fr_ou e t a)
def fr_stp (g : Nat → Nat → Bool) (e : Nat → Nat) (a s t : Nat) : Bool := decide (0 < fr_nx e s a ∧ 0 < fr_nx e t a ∧ g (fr_nx e s a - 1) (fr_nx e t a - 1) = true)
def fr_ex (e : Nat → Nat) : Nat → Nat → Nat → Bool
  | 0 => fun s t => fr_od e 0 s t || fr_od e 1 s t
  | L + 1 => fun s t => fr_stp (fr_ex e L) e 0 s t || fr_stp (fr_ex e L) e 1 s t
def fr_sx (e : Nat → Nat) : Nat → Nat → Nat → Nat → Bool
  | 0 => fun a s t => fr_od e a s t
  | L + 1 => fun a s t => fr_stp (fr_ex e L) e a s t
def fr_lvl (e : Nat → Nat) : Nat → Nat → Nat → Nat
  | 0 => fun _ _ => 1000
  | B + 1 => fun s t => if fr_lvl e B s t = 1000 then (if fr_ex e B s t = true then B + 1 else 1000) else fr_lvl e B s t
def fr_sw (e : Nat → Nat) : Nat → Nat → Nat → Nat → Bool
  | 0 => fun w s t => fr_od e (w % 2) s t
  | L + 1 => fun w s t => fr_stp (fr_sw e L w) e (w / 2 ^ (L + 1) % 2) s t
def fr_lw (e : Nat → Nat) : Nat → Nat → Nat → Nat
  | 0 => fun s t => if fr_od e 0 s t = true then 0 else 1
  | L + 1 => fun s t => if fr_stp (fr_ex e L) e 0 s t = true then fr_lw e L (fr_nx e s 0 - 1) (fr_nx e t 0 - 1) else 2 ^ (L + 1) + fr_lw e L (fr_nx e s 1 - 1) (fr_nx e t 1 - 1)
def fr_dl (e : Nat → Nat) (l s t : Nat) : Prop := fr_ex e l s t = true ∧ ∀ l', l' < l → fr_ex e l' s t = false
def fr_V (N : Nat) (e : Nat → Nat) : Prop := 2 ≤ N ∧ N ≤ 5 ∧ ∀ j, e j < 3 * (N + 1)
theorem fr_V18 {N : Nat} {e : Nat → Nat} (h : fr_V N e) (j : Nat) : e j < 18 := by
  have h1 := h.2.2 j
  have h2 := h.2.1
  omega
theorem fr_nx_le {N : Nat} {e : Nat → Nat} (h : fr_V N e) (s a : Nat) : fr_nx e s a ≤ N := by
  have h1 := h.2.2 (2 * s + a)
  unfold fr_nx
  omega
theorem fr_ou_lt (e : Nat → Nat) (s a : Nat) : fr_ou e s a < 3 := Nat.mod_lt _ (by decide)
theorem fr_ex_sx (e : Nat → Nat) (L s t : Nat) : fr_ex e L s t = (fr_sx e L 0 s t || fr_sx e L 1 s t) := by
  cases L <;> rfl
theorem fr_ex_of {e : Nat → Nat} {L a s t : Nat} (ha : a < 2) (h : fr_sx e L a s t = true) : fr_ex e L s t = true := by
  rw [fr_ex_sx, Bool.or_eq_true]
  have : a = 0 ∨ a = 1 := by omega
  rcases this with rfl | rfl
  · exact Or.inl h
  · exact Or.inr h
theorem fr_ex_to {e : Nat → Nat} {L s t : Nat} (h : fr_ex e L s t = true) : ∃ a, a < 2 ∧ fr_sx e L a s t = true := by
  rw [fr_ex_sx, Bool.or_eq_true] at h
  rcases h with h | h
  · exact ⟨0, by decide, h⟩
  · exact ⟨1, by decide, h⟩
theorem fr_sx_s {e : Nat → Nat} {L a s t : Nat} : fr_sx e (L + 1) a s t = true ↔ (0 < fr_nx e s a ∧ 0 < fr_nx e t a ∧ fr_ex e L (fr_nx e s a - 1) (fr_nx e t a - 1) = true) := decide_eq_true_iff
theorem fr_sx_0 {e : Nat → Nat} {a s t : Nat} : fr_sx e 0 a s t = true ↔ (0 < fr_ou e s a ∧ 0 < fr_ou e t a ∧ fr_ou e s a ≠ fr_ou e t a) := decide_eq_true_iff
theorem fr_dl_u {e : Nat → Nat} {l l' s t : Nat} (h : fr_dl e l s t) (h' : fr_dl e l' s t) : l = l' := by
  rcases Nat.lt_trichotomy l l' with z | z | z
  · have h1 := h'.2 l z
    rw [h.1] at h1
    exact absurd h1 (by decide)
  · exact z
  · have h1 := h.2 l' z
    rw [h'.1] at h1
    exact absurd h1 (by decide)
theorem fr_dl_of {e : Nat → Nat} {s t : Nat} : ∀ L, fr_ex e L s t = true → ∃ l, l ≤ L ∧ fr_dl e l s t := by
  intro L
  induction L using Nat.strongRecOn with
  | _ L ih =>
    intro h
    by_cases hx : ∃ l, l < L ∧ fr_ex e l s t = true
    · obtain ⟨l, hl, hl2⟩ := hx
      obtain ⟨m, hm, hm2⟩ := ih l hl hl2
      exact ⟨m, by omega, hm2⟩
    · exact ⟨L, Nat.le_refl L, h, fun l' hl' => fr_bf (fun z => hx ⟨l', hl', z⟩)⟩
theorem fr_lvl_spec (e : Nat → Nat) (s t : Nat) : ∀ B, B ≤ 900 → (fr_lvl e B s t = 1000 ∧ ∀ l, l < B → fr_ex e l s t = false) ∨ (∃ l, l < B ∧ fr_lvl e B s t = l + 1 ∧ fr_dl e l s t) := by
  intro B
  induction B with
  | zero => intro _; exact Or.inl ⟨rfl, fun l h => absurd h (Nat.not_lt_zero l)⟩
  | succ B ih =>
    intro hB
    have hu : fr_lvl e (B + 1) s t = if fr_lvl e B s t = 1000 then (if fr_ex e B s t = true then B + 1 else 1000) else fr_lvl e B s t := rfl
    rcases ih (by omega) with ⟨h1, h2⟩ | ⟨l, h1, h2, h3⟩
    · by_cases hx : fr_ex e B s t = true
      · right
        refine ⟨B, by omega, ?_, hx, h2⟩
        rw [hu, if_pos h1, if_pos hx]
      · left
        refine ⟨?_, ?_⟩
        · rw [hu, if_pos h1, if_neg hx]
        · intro l hl
          by_cases hlB : l = B
          · subst hlB
            exact fr_bf hx
          · exact h2 l (by omega)
    · right
      refine ⟨l, by omega, ?_, h3⟩
      rw [hu, if_neg (by omega), h2]
theorem fr_lvl_eq {e : Nat → Nat} {s t B l : Nat} (hB : B ≤ 900) (hl : l < 999) : fr_lvl e B s t = l + 1 ↔ (l < B ∧ fr_dl e l s t) := by
  rcases fr_lvl_spec e s t B hB with ⟨h1, h2⟩ | ⟨m, h1, h2, h3⟩
  · constructor
    · intro h
      omega
    · intro h
      have := h2 l h.1
      rw [h.2.1] at this
      exact absurd this (by decide)
  · constructor
    · intro h
      have : l = m := by omega
      subst this
      exact ⟨h1, h3⟩
    · intro h
      rw [h2, fr_dl_u h3 h.2]
theorem fr_lvl_far {e : Nat → Nat} {s t B : Nat} (hB : B ≤ 900) : fr_lvl e B s t = 1000 ↔ ∀ l, l < B → fr_ex e l s t = false := by
  rcases fr_lvl_spec e s t B hB with ⟨h1, h2⟩ | ⟨m, h1, h2, h3⟩
  · exact ⟨fun _ => h2, fun _ => h1⟩
  · constructor
    · intro h
      omega
    · intro h
      have := h m h1
      rw [h3.1] at this
      exact absurd this (by decide)
theorem fr_lvl_le {e : Nat → Nat} {s t B : Nat} (hB : B ≤ 900) : fr_lvl e B s t ≤ 1000 := by
  rcases fr_lvl_spec e s t B hB with ⟨h1, h2⟩ | ⟨m, h1, h2, h3⟩ <;> omega
theorem fr_lvl_pos {e : Nat → Nat} {s t B : Nat} (hB : B ≤ 900) : 0 < fr_lvl e B s t := by
  rcases fr_lvl_spec e s t B hB with ⟨h1, h2⟩ | ⟨m, h1, h2, h3⟩ <;> omega
/-- what the component's splits asks, over its level array -/
def fr_SP (e : Nat → Nat) (lv : Nat → Int32) : Nat → Nat → Nat → Nat → Prop
  | 0 => fun a s t => 0 < fr_ou e s a ∧ 0 < fr_ou e t a ∧ fr_ou e s a ≠ fr_ou e t a
  | L + 1 => fun a s t => 0 < fr_nx e s a ∧ 0 < fr_nx e t a ∧ lv (5 * (fr_nx e s a - 1) + (fr_nx e t a - 1)) = nI (L + 1)
theorem fr_SPx {N : Nat} {e : Nat → Nat} {lv : Nat → Int32} {L s t a : Nat} (hV : fr_V N e) (ha : a < 2) (hn : ∀ l, l < L → fr_ex e l s t = false) (H : ∀ p q b, p < N → q < N → L = b + 1 → (lv (5 * p + q) = nI L ↔ fr_dl e b p q)) : fr_SP e lv L a s t ↔ fr_sx e L a s t = true := by
  cases L with
  | zero => exact fr_sx_0.symm
  | succ b =>
    rw [fr_sx_s]
    have hp := fr_nx_le hV s a
    have hq := fr_nx_le hV t a
    have h2 := hV.1
    constructor
    · intro h
      exact ⟨h.1, h.2.1, ((H _ _ b (by omega) (by omega) rfl).mp h.2.2).1⟩
    · intro h
      refine ⟨h.1, h.2.1, (H _ _ b (by omega) (by omega) rfl).mpr ⟨h.2.2, fun l' hl' => fr_bf (fun z => ?_)⟩⟩
      have h3 := hn (l' + 1) (by omega)
      rw [fr_ex_of ha (fr_sx_s.mpr ⟨h.1, h.2.1, z⟩)] at h3
      exact absurd h3 (by decide)
theorem fr_dl_next {e : Nat → Nat} {l s t a : Nat} (ha : a < 2) (h : fr_dl e (l + 1) s t) (hx : fr_sx e (l + 1) a s t = true) : 0 < fr_nx e s a ∧ 0 < fr_nx e t a ∧ fr_dl e l (fr_nx e s a - 1) (fr_nx e t a - 1) := by
  have h2 := fr_sx_s.mp hx
  refine ⟨h2.1, h2.2.1, h2.2.2, fun l' hl' => fr_bf (fun z => ?_)⟩
  have h3 := h.2 (l' + 1) (by omega)
  rw [fr_ex_of ha (fr_sx_s.mpr ⟨h2.1, h2.2.1, z⟩)] at h3
  exact absurd h3 (by decide)
/-! words -/
theorem fr_stp_iff {g : Nat → Nat → Bool} {e : Nat → Nat} {a s t : Nat} : fr_stp g e a s t = true ↔ (0 < fr_nx e s a ∧ 0 < fr_nx e t a ∧ g (fr_nx e s a - 1) (fr_nx e t a - 1) = true) := decide_eq_true_iff
theorem fr_sw_mod (e : Nat → Nat) : ∀ L m w, fr_sw e L (2 ^ (L + 1) * m + w) = fr_sw e L w := by
  intro L
  induction L with
  | zero =>
    intro m w
    funext s t
    show fr_od e ((2 ^ (0 + 1) * m + w) % 2) s t = fr_od e (w % 2) s t
    rw [show (2 ^ (0 + 1) * m + w) % 2 = w % 2 from by omega]
  | succ L ih =>
    intro m w
    funext s t
    have e1 : 2 ^ (L + 1 + 1) * m + w = 2 ^ (L + 1) * (2 * m) + w := by
      rw [Nat.pow_succ, Nat.mul_assoc]
    have e2 : (2 ^ (L + 1) * (2 * m) + w) / 2 ^ (L + 1) % 2 = w / 2 ^ (L + 1) % 2 := by
      rw [Nat.mul_add_div (Nat.two_pow_pos _)]
      omega
    show fr_stp (fr_sw e L (2 ^ (L + 1 + 1) * m + w)) e ((2 ^ (L + 1 + 1) * m + w) / 2 ^ (L + 1) % 2) s t = fr_stp (fr_sw e L w) e (w / 2 ^ (L + 1) % 2) s t
    rw [e1, e2, ih]
theorem fr_sw_lo {e : Nat → Nat} {L w s t : Nat} (hw : w < 2 ^ (L + 1)) : fr_sw e (L + 1) w s t = fr_stp (fr_sw e L w) e 0 s t := by
  show fr_stp (fr_sw e L w) e (w / 2 ^ (L + 1) % 2) s t = _
  rw [Nat.div_eq_of_lt hw]
theorem fr_sw_hi {e : Nat → Nat} {L w s t : Nat} (hw : w < 2 ^ (L + 1)) : fr_sw e (L + 1) (2 ^ (L + 1) + w) s t = fr_stp (fr_sw e L w) e 1 s t := by
  show fr_stp (fr_sw e L (2 ^ (L + 1) + w)) e ((2 ^ (L + 1) + w) / 2 ^ (L + 1) % 2) s t = _
  have e1 : 2 ^ (L + 1) + w = 2 ^ (L + 1) * 1 + w := by rw [Nat.mul_one]
  rw [e1, fr_sw_mod, Nat.mul_add_div (Nat.two_pow_pos _), Nat.div_eq_of_lt hw]
theorem fr_sw_ex {e : Nat → Nat} : ∀ L w s t, fr_sw e L w s t = true → fr_ex e L s t = true := by
  intro L
  induction L with
  | zero =>
    intro w s t h
    exact fr_ex_of (a := w % 2) (Nat.mod_lt _ (by decide)) h
  | succ L ih =>
    intro w s t h
    have h1 := fr_stp_iff.mp h
    exact fr_ex_of (a := w / 2 ^ (L + 1) % 2) (Nat.mod_lt _ (by decide)) (fr_sx_s.mpr ⟨h1.1, h1.2.1, ih w _ _ h1.2.2⟩)
theorem fr_lw_ok {e : Nat → Nat} : ∀ L s t, fr_ex e L s t = true → fr_lw e L s t < 2 ^ (L + 1) ∧ fr_sw e L (fr_lw e L s t) s t = true ∧ ∀ w, w < fr_lw e L s t → fr_sw e L w s t = false := by
  intro L
  induction L with
  | zero =>
    intro s t h
    have hu : fr_lw e 0 s t = if fr_od e 0 s t = true then 0 else 1 := rfl
    by_cases h0 : fr_od e 0 s t = true
    · rw [hu, if_pos h0]
      exact ⟨by decide, h0, fun w hw => absurd hw (Nat.not_lt_zero w)⟩
    · rw [hu, if_neg h0]
      have h1 : fr_od e 1 s t = true := by
        have h2 : (fr_od e 0 s t || fr_od e 1 s t) = true := h
        rw [fr_bf h0] at h2
        exact h2
      refine ⟨by decide, h1, fun w hw => ?_⟩
      have : w = 0 := by omega
      subst this
      exact fr_bf h0
  | succ L ih =>
    intro s t h
    have hu : fr_lw e (L + 1) s t = if fr_stp (fr_ex e L) e 0 s t = true then fr_lw e L (fr_nx e s 0 - 1) (fr_nx e t 0 - 1) else 2 ^ (L + 1) + fr_lw e L (fr_nx e s 1 - 1) (fr_nx e t 1 - 1) := rfl
    have hp : 2 ^ (L + 1 + 1) = 2 ^ (L + 1) + 2 ^ (L + 1) := by rw [Nat.pow_succ]; omega
    by_cases h0 : fr_stp (fr_ex e L) e 0 s t = true
    · rw [hu, if_pos h0]
      have h1 := fr_stp_iff.mp h0
      obtain ⟨i1, i2, i3⟩ := ih _ _ h1.2.2
      refine ⟨by omega, ?_, fun w hw => ?_⟩
      · rw [fr_sw_lo i1]
        exact fr_stp_iff.mpr ⟨h1.1, h1.2.1, i2⟩
      · rw [fr_sw_lo (by omega)]
        apply fr_bf
        intro z
        have z2 := (fr_stp_iff.mp z).2.2
        rw [i3 w hw] at z2
        exact absurd z2 (by decide)
    · rw [hu, if_neg h0]
      have h2 : fr_stp (fr_ex e L) e 1 s t = true := by
        have h3 : (fr_stp (fr_ex e L) e 0 s t || fr_stp (fr_ex e L) e 1 s t) = true := h
        rw [fr_bf h0] at h3
        exact h3
      have h1 := fr_stp_iff.mp h2
      obtain ⟨i1, i2, i3⟩ := ih _ _ h1.2.2
      refine ⟨by omega, ?_, fun w hw => ?_⟩
      · rw [fr_sw_hi i1]
        exact fr_stp_iff.mpr ⟨h1.1, h1.2.1, i2⟩
      · apply fr_bf
        intro z
        by_cases hw2 : w < 2 ^ (L + 1)
        · rw [fr_sw_lo hw2] at z
          have z1 := fr_stp_iff.mp z
          apply h0
          apply fr_stp_iff.mpr
          exact ⟨z1.1, z1.2.1, fr_sw_ex L w _ _ z1.2.2⟩
        · obtain ⟨w2, rfl⟩ : ∃ w2, w = 2 ^ (L + 1) + w2 := ⟨w - 2 ^ (L + 1), by omega⟩
          rw [fr_sw_hi (by omega)] at z
          have z2 := (fr_stp_iff.mp z).2.2
          rw [i3 w2 (by omega)] at z2
          exact absurd z2 (by decide)
/-- the least word is the first that splits -/
theorem fr_lw_eq {e : Nat → Nat} {L w s t : Nat} (h : fr_sw e L w s t = true) (hn : ∀ v, v < w → fr_sw e L v s t = false) : fr_ex e L s t = true ∧ fr_lw e L s t = w := by
  have hx := fr_sw_ex L w s t h
  obtain ⟨h1, h2, h3⟩ := fr_lw_ok L s t hx
  refine ⟨hx, ?_⟩
  rcases Nat.lt_trichotomy (fr_lw e L s t) w with z | z | z
  · have := hn _ z
    rw [h2] at this
    exact absurd this (by decide)
  · exact z
  · have := h3 _ z
    rw [h] at this
    exact absurd this (by decide)
theorem fr_lw_none {e : Nat → Nat} {L s t : Nat} (hn : ∀ v, v < 2 ^ (L + 1) → fr_sw e L v s t = false) : fr_ex e L s t = false := by
  apply fr_bf
  intro h
  obtain ⟨h1, h2, h3⟩ := fr_lw_ok L s t h
  rw [hn _ h1] at h2
  exact absurd h2 (by decide)
/-! the bound: no shortest word meets a pair twice -/
theorem fr_ph : ∀ n (f : Nat → Nat), (∀ i, i ≤ n → f i < n) → ∃ i j, i < j ∧ j ≤ n ∧ f i = f j := by
  intro n
  induction n with
  | zero => intro f h; exact absurd (h 0 (Nat.le_refl 0)) (Nat.not_lt_zero _)
  | succ n ih =>
    intro f h
    by_cases hx : ∃ i, i ≤ n ∧ f i = f (n + 1)
    · obtain ⟨i, hi, he⟩ := hx
      exact ⟨i, n + 1, by omega, Nat.le_refl _, he⟩
    · have hne : ∀ i, i ≤ n → f i ≠ f (n + 1) := fun i hi z => hx ⟨i, hi, z⟩
      have hm := h (n + 1) (Nat.le_refl _)
      obtain ⟨i, j, hij, hj, he⟩ := ih (fun i => if f i = n then f (n + 1) else f i) (by
        intro i hi
        have h1 := h i (by omega)
        have h2 := hne i hi
        show (if f i = n then f (n + 1) else f i) < n
        by_cases hc : f i = n
        · rw [if_pos hc]
          omega
        · rw [if_neg hc]
          omega)
      have he2 : (if f i = n then f (n + 1) else f i) = (if f j = n then f (n + 1) else f j) := he
      have h1 := hne i (by omega)
      have h2 := hne j (by omega)
      refine ⟨i, j, hij, by omega, ?_⟩
      by_cases c1 : f i = n
      · by_cases c2 : f j = n
        · rw [c1, c2]
        · rw [if_pos c1, if_neg c2] at he2
          exact absurd he2.symm h2
      · by_cases c2 : f j = n
        · rw [if_neg c1, if_pos c2] at he2
          exact absurd he2 h1
        · rw [if_neg c1, if_neg c2] at he2
          exact he2
theorem fr_od_sym (e : Nat → Nat) (a s t : Nat) : fr_od e a s t = fr_od e a t s := by
  unfold fr_od
  apply decide_eq_decide.mpr
  constructor
  · intro h
    exact ⟨h.2.1, h.1, fun z => h.2.2 z.symm⟩
  · intro h
    exact ⟨h.2.1, h.1, fun z => h.2.2 z.symm⟩
theorem fr_ex_sym (e : Nat → Nat) : ∀ L s t, fr_ex e L s t = fr_ex e L t s := by
  intro L
  induction L with
  | zero =>
    intro s t
    show (fr_od e 0 s t || fr_od e 1 s t) = (fr_od e 0 t s || fr_od e 1 t s)
    rw [fr_od_sym e 0 s t, fr_od_sym e 1 s t]
  | succ L ih =>
    intro s t
    have hst : ∀ a, fr_stp (fr_ex e L) e a s t = fr_stp (fr_ex e L) e a t s := by
      intro a
      unfold fr_stp
      apply decide_eq_decide.mpr
      rw [ih (fr_nx e s a - 1) (fr_nx e t a - 1)]
      constructor
      · intro h
        exact ⟨h.2.1, h.1, h.2.2⟩
      · intro h
        exact ⟨h.2.1, h.1, h.2.2⟩
    show (fr_stp (fr_ex e L) e 0 s t || fr_stp (fr_ex e L) e 1 s t) = (fr_stp (fr_ex e L) e 0 t s || fr_stp (fr_ex e L) e 1 t s)
    rw [hst 0, hst 1]
theorem fr_ex_irr (e : Nat → Nat) : ∀ L s, fr_ex e L s s = false := by
  intro L
  induction L with
  | zero =>
    intro s
    apply fr_bf
    intro h
    obtain ⟨a, ha, hx⟩ := fr_ex_to h
    exact (fr_sx_0.mp hx).2.2 rfl
  | succ L ih =>
    intro s
    apply fr_bf
    intro h
    obtain ⟨a, ha, hx⟩ := fr_ex_to h
    have h2 := (fr_sx_s.mp hx).2.2
    rw [ih] at h2
    exact absurd h2 (by decide)
theorem fr_lvl_irr (e : Nat → Nat) (s : Nat) {B : Nat} (hB : B ≤ 900) : fr_lvl e B s s = 1000 := (fr_lvl_far hB).mpr (fun l _ => fr_ex_irr e l s)
theorem fr_pix : ∀ N, N < 6 → ∀ q, q < N → ∀ p, p < q → q * (q - 1) / 2 + p < N * (N - 1) / 2 := by decide +kernel
theorem fr_pinjD : ∀ a, a < 25 → ∀ b, b < 25 → ((a % 5 < a / 5 ∧ b % 5 < b / 5 ∧ (a / 5) * (a / 5 - 1) / 2 + a % 5 = (b / 5) * (b / 5 - 1) / 2 + b % 5) → a = b) := by decide +kernel
theorem fr_pinj {q p q' p' : Nat} (hq : q < 5) (hp : p < q) (hq' : q' < 5) (hp' : p' < q') (h : q * (q - 1) / 2 + p = q' * (q' - 1) / 2 + p') : p = p' ∧ q = q' := by
  have a1 : (5 * q + p) / 5 = q := by omega
  have a2 : (5 * q + p) % 5 = p := by omega
  have b1 : (5 * q' + p') / 5 = q' := by omega
  have b2 : (5 * q' + p') % 5 = p' := by omega
  have h2 := fr_pinjD (5 * q + p) (by omega) (5 * q' + p') (by omega) (by rw [a1, a2, b1, b2]; exact ⟨hp, hp', h⟩)
  omega
theorem fr_chain {N : Nat} {e : Nat → Nat} (hV : fr_V N e) : ∀ d i s t, s < N → t < N → fr_dl e (i + d) s t → ∃ p q, p < N ∧ q < N ∧ fr_dl e i p q := by
  intro d
  induction d with
  | zero => intro i s t hs ht h; exact ⟨s, t, hs, ht, h⟩
  | succ d ih =>
    intro i s t hs ht h
    have h' : fr_dl e (i + d + 1) s t := h
    obtain ⟨a, ha, hx⟩ := fr_ex_to h'.1
    obtain ⟨h1, h2, h3⟩ := fr_dl_next ha h' hx
    have hp := fr_nx_le hV s a
    have hq := fr_nx_le hV t a
    exact ih i _ _ (by omega) (by omega) h3
theorem fr_chain2 {N : Nat} {e : Nat → Nat} (hV : fr_V N e) {l s t : Nat} (hs : s < N) (ht : t < N) (h : fr_dl e l s t) (i : Nat) : ∃ y : Nat × Nat, i ≤ l → (y.1 < y.2 ∧ y.2 < N ∧ fr_dl e i y.1 y.2) := by
  by_cases hi : i ≤ l
  · obtain ⟨p, q, hp, hq, hd⟩ := fr_chain hV (l - i) i s t hs ht (by rw [show i + (l - i) = l from by omega]; exact h)
    rcases Nat.lt_trichotomy p q with z | z | z
    · exact ⟨(p, q), fun _ => ⟨z, hq, hd⟩⟩
    · subst z
      have h1 := hd.1
      rw [fr_ex_irr] at h1
      exact absurd h1 (by decide)
    · refine ⟨(q, p), fun _ => ⟨z, hp, ?_, fun l' hl' => ?_⟩⟩
      · show fr_ex e i q p = true
        rw [fr_ex_sym]
        exact hd.1
      · show fr_ex e l' q p = false
        rw [fr_ex_sym]
        exact hd.2 l' hl'
  · exact ⟨(0, 0), fun z => absurd z hi⟩
theorem fr_bound {N : Nat} {e : Nat → Nat} (hV : fr_V N e) {l s t : Nat} (hs : s < N) (ht : t < N) (h : fr_dl e l s t) : l < N * (N - 1) / 2 := by
  have hN := hV.2.1
  apply Classical.byContradiction
  intro hc
  have hf := Classical.axiomOfChoice (fr_chain2 hV hs ht h)
  obtain ⟨f, hf⟩ := hf
  obtain ⟨i, j, hij, hj, he⟩ := fr_ph (N * (N - 1) / 2) (fun i => (f i).2 * ((f i).2 - 1) / 2 + (f i).1) (by
    intro i hi
    obtain ⟨h1, h2, h3⟩ := hf i (by omega)
    exact fr_pix N (by omega) _ h2 _ h1)
  obtain ⟨a1, a2, a3⟩ := hf i (by omega)
  obtain ⟨b1, b2, b3⟩ := hf j (by omega)
  obtain ⟨c1, c2⟩ := fr_pinj (by omega) a1 (by omega) b1 he
  rw [c1, c2] at a3
  have := fr_dl_u a3 b3
  omega
theorem fr_pairs_le : ∀ N, N < 6 → N * (N - 1) / 2 ≤ 10 := by decide +kernel
/-- the reference's search for the length ends as the component's level says -/
theorem fr_far {N : Nat} {e : Nat → Nat} (hV : fr_V N e) {s t : Nat} (hs : s < N) (ht : t < N) (h : ∀ l, l < N * (N - 1) / 2 → fr_ex e l s t = false) : fr_lvl e 25 s t = 1000 := by
  apply (fr_lvl_far (by decide)).mpr
  intro l hl
  apply fr_bf
  intro z
  obtain ⟨m, hm, hd⟩ := fr_dl_of l z
  have h1 := h m (fr_bound hV hs ht hd)
  rw [hd.1] at h1
  exact absurd h1 (by decide)
end
section
/-! compatible sets, counting, images -/
def fr_Gd (N : Nat) (e : Nat → Nat) (c : Nat) : Bool := decide (∀ s, s < N → ∀ t, t < N → c.testBit s = true → c.testBit t = true → fr_lvl e 25 s t = 1000)
theorem fr_Gd_iff {N : Nat} {e : Nat → Nat} {c : Nat} : fr_Gd N e c = true ↔ ∀ s, s < N → ∀ t, t < N → c.testBit s = true → c.testBit t = true → fr_lvl e 25 s t = 1000 := decide_eq_true_iff
def fr_Q (N : Nat) (e : Nat → Nat) (c : Nat) : Bool := decide (0 < c ∧ fr_Gd N e c = true)
theorem fr_Q_iff {N : Nat} {e : Nat → Nat} {c : Nat} : fr_Q N e c = true ↔ (0 < c ∧ fr_Gd N e c = true) := decide_eq_true_iff
def fr_cnt (P : Nat → Bool) : Nat → Nat
  | 0 => 0
  | n + 1 => if P n = true then fr_cnt P n + 1 else fr_cnt P n
def fr_enm (P : Nat → Bool) : Nat → Nat → Nat
  | 0 => fun _ => 0
  | n + 1 => fun i => if P n = true ∧ i = fr_cnt P n then n else fr_enm P n i
theorem fr_cnt_t {P : Nat → Bool} {n : Nat} (h : P n = true) : fr_cnt P (n + 1) = fr_cnt P n + 1 := if_pos h
theorem fr_cnt_f {P : Nat → Bool} {n : Nat} (h : ¬ P n = true) : fr_cnt P (n + 1) = fr_cnt P n := if_neg h
theorem fr_cnt_le (P : Nat → Bool) : ∀ n, fr_cnt P n ≤ n := by
  intro n
  induction n with
  | zero => exact Nat.le_refl 0
  | succ n ih =>
    by_cases h : P n = true
    · rw [fr_cnt_t h]; omega
    · rw [fr_cnt_f h]; omega
theorem fr_cnt_le1 {P : Nat → Bool} (h0 : ¬ P 0 = true) : ∀ n, fr_cnt P (n + 1) ≤ n := by
  intro n
  induction n with
  | zero => rw [fr_cnt_f h0]; exact Nat.le_refl 0
  | succ n ih =>
    by_cases h : P (n + 1) = true
    · rw [fr_cnt_t h]; omega
    · rw [fr_cnt_f h]; omega
theorem fr_cnt_mono {P : Nat → Bool} {m : Nat} : ∀ n, m ≤ n → fr_cnt P m ≤ fr_cnt P n := by
  intro n
  induction n with
  | zero => intro h; rw [show m = 0 from by omega]; exact Nat.le_refl _
  | succ n ih =>
    intro h
    by_cases hm : m = n + 1
    · rw [hm]; exact Nat.le_refl _
    · have h1 := ih (by omega)
      by_cases h : P n = true
      · rw [fr_cnt_t h]; omega
      · rw [fr_cnt_f h]; exact h1
theorem fr_cnt_lt {P : Nat → Bool} {j n : Nat} (hj : j < n) (h : P j = true) : fr_cnt P j < fr_cnt P n := by
  have h1 := fr_cnt_mono (P := P) n hj
  rw [fr_cnt_t h] at h1
  omega
theorem fr_enm_s {P : Nat → Bool} : ∀ n i, i < fr_cnt P n → fr_enm P n i < n ∧ P (fr_enm P n i) = true ∧ fr_cnt P (fr_enm P n i) = i := by
  intro n
  induction n with
  | zero => intro i h; exact absurd h (Nat.not_lt_zero i)
  | succ n ih =>
    intro i hi
    have hu : fr_enm P (n + 1) i = if P n = true ∧ i = fr_cnt P n then n else fr_enm P n i := rfl
    by_cases hc : P n = true ∧ i = fr_cnt P n
    · rw [hu, if_pos hc]
      exact ⟨by omega, hc.1, hc.2.symm⟩
    · rw [hu, if_neg hc]
      have hi2 : i < fr_cnt P n := by
        by_cases h : P n = true
        · rw [fr_cnt_t h] at hi
          have : i ≠ fr_cnt P n := fun z => hc ⟨h, z⟩
          omega
        · rw [fr_cnt_f h] at hi
          exact hi
      obtain ⟨h1, h2, h3⟩ := ih i hi2
      exact ⟨by omega, h2, h3⟩
theorem fr_enm_c {P : Nat → Bool} {j : Nat} (h : P j = true) : ∀ n, j < n → fr_enm P n (fr_cnt P j) = j := by
  intro n
  induction n with
  | zero => intro hj; exact absurd hj (Nat.not_lt_zero j)
  | succ n ih =>
    intro hj
    have hu : fr_enm P (n + 1) (fr_cnt P j) = if P n = true ∧ fr_cnt P j = fr_cnt P n then n else fr_enm P n (fr_cnt P j) := rfl
    by_cases hn : j = n
    · subst hn
      rw [hu, if_pos ⟨h, rfl⟩]
    · have h1 : j < n := by omega
      have h2 := fr_cnt_lt h1 h
      rw [hu, if_neg (fun z => by omega)]
      exact ih h1
/-! the sets in rising order: their number, the i-th -/
def fr_S (N : Nat) (e : Nat → Nat) : Nat := fr_cnt (fr_Q N e) (2 ^ N)
def fr_f (N : Nat) (e : Nat → Nat) : Nat → Nat := fr_enm (fr_Q N e) (2 ^ N)
def fr_ps (N : Nat) (e : Nat → Nat) : Nat → Nat := fr_cnt (fr_Q N e)
theorem fr_Q0 (N : Nat) (e : Nat → Nat) : ¬ fr_Q N e 0 = true := fun h => absurd (fr_Q_iff.mp h).1 (by decide)
theorem fr_ps1 (N : Nat) (e : Nat → Nat) : fr_ps N e 1 = 0 := fr_cnt_f (fr_Q0 N e)
theorem fr_ps_le {N : Nat} {e : Nat → Nat} {c : Nat} (h : 1 ≤ c) : fr_ps N e c + 1 ≤ c := by
  obtain ⟨n, rfl⟩ : ∃ n, c = n + 1 := ⟨c - 1, by omega⟩
  have h2 := fr_cnt_le1 (fr_Q0 N e) n
  show fr_cnt (fr_Q N e) (n + 1) + 1 ≤ n + 1
  omega
theorem fr_S31 {N : Nat} (e : Nat → Nat) (h : N ≤ 5) : fr_S N e ≤ 31 := by
  have h1 := fr_p32 h
  have h2 : fr_ps N e (2 ^ N) + 1 ≤ 2 ^ N := fr_ps_le (Nat.two_pow_pos N)
  have h3 : fr_ps N e (2 ^ N) = fr_S N e := rfl
  omega
theorem fr_f_ok {N : Nat} {e : Nat → Nat} {i : Nat} (h : i < fr_S N e) : fr_f N e i < 2 ^ N ∧ fr_Q N e (fr_f N e i) = true ∧ fr_ps N e (fr_f N e i) = i := fr_enm_s _ i h
theorem fr_f_ps {N : Nat} {e : Nat → Nat} {c : Nat} (hc : c < 2 ^ N) (h : fr_Q N e c = true) : fr_f N e (fr_ps N e c) = c ∧ fr_ps N e c < fr_S N e := ⟨fr_enm_c h _ hc, fr_cnt_lt hc h⟩
theorem fr_f32 {N : Nat} {e : Nat → Nat} {i : Nat} (hN : N ≤ 5) (h : i < fr_S N e) : fr_f N e i < 32 := by
  have h1 := (fr_f_ok h).1
  have h2 := fr_p32 hN
  omega
theorem fr_f_mono {N : Nat} {e : Nat → Nat} {i j : Nat} (hij : i < j) (hj : j < fr_S N e) : fr_f N e i < fr_f N e j := by
  obtain ⟨h1, h2, h3⟩ := fr_f_ok (N := N) (e := e) (i := i) (by omega)
  obtain ⟨k1, k2, k3⟩ := fr_f_ok hj
  apply Classical.byContradiction
  intro z
  have h4 := fr_cnt_mono (P := fr_Q N e) (m := fr_f N e j) (fr_f N e i) (by omega)
  have h5 : fr_ps N e (fr_f N e j) ≤ fr_ps N e (fr_f N e i) := h4
  omega
theorem fr_f_Gd {N : Nat} {e : Nat → Nat} {i : Nat} (h : i < fr_S N e) : fr_Gd N e (fr_f N e i) = true := (fr_Q_iff.mp (fr_f_ok h).2.1).2
/-- largest sets by their place -/
def fr_mx (N : Nat) (e : Nat → Nat) (i : Nat) : Bool := decide (∀ k, k < fr_S N e → i < k → ¬ (fr_f N e i &&& fr_f N e k = fr_f N e i))
theorem fr_mx_iff {N : Nat} {e : Nat → Nat} {i : Nat} : fr_mx N e i = true ↔ ∀ k, k < fr_S N e → i < k → ¬ fr_sub (fr_f N e i) (fr_f N e k) := decide_eq_true_iff
/-! images -/
def fr_imr (e : Nat → Nat) (c a : Nat) : Nat → Nat
  | 0 => 0
  | s + 1 => if c.testBit s = true ∧ 0 < fr_nx e s a then fr_imr e c a s ||| 2 ^ (fr_nx e s a - 1) else fr_imr e c a s
def fr_im (N : Nat) (e : Nat → Nat) (c a : Nat) : Nat := fr_imr e c a N
theorem fr_imr_t {e : Nat → Nat} {c a s : Nat} (h : c.testBit s = true) (h2 : 0 < fr_nx e s a) : fr_imr e c a (s + 1) = fr_imr e c a s ||| 2 ^ (fr_nx e s a - 1) := if_pos ⟨h, h2⟩
theorem fr_imr_f {e : Nat → Nat} {c a s : Nat} (h : ¬ (c.testBit s = true ∧ 0 < fr_nx e s a)) : fr_imr e c a (s + 1) = fr_imr e c a s := if_neg h
theorem fr_imr32 {N : Nat} {e : Nat → Nat} (hV : fr_V N e) (c a : Nat) : ∀ s, fr_imr e c a s < 2 ^ N := by
  intro s
  induction s with
  | zero => exact Nat.two_pow_pos N
  | succ s ih =>
    by_cases h : c.testBit s = true ∧ 0 < fr_nx e s a
    · rw [fr_imr_t h.1 h.2]
      have h1 := fr_nx_le hV s a
      have h2 := h.2
      exact Nat.or_lt_two_pow ih (Nat.pow_lt_pow_right (by decide) (by omega))
    · rw [fr_imr_f h]
      exact ih
theorem fr_im2 {N : Nat} {e : Nat → Nat} (hV : fr_V N e) (c a : Nat) : fr_im N e c a < 2 ^ N := fr_imr32 hV c a N
theorem fr_im32 {N : Nat} {e : Nat → Nat} (hV : fr_V N e) (c a : Nat) : fr_im N e c a < 32 := Nat.lt_of_lt_of_le (fr_im2 hV c a) (fr_p32 hV.2.1)
theorem fr_imr_bit {e : Nat → Nat} {c a t : Nat} : ∀ s, (fr_imr e c a s).testBit t = true ↔ ∃ r, r < s ∧ c.testBit r = true ∧ fr_nx e r a = t + 1 := by
  intro s
  induction s with
  | zero =>
    constructor
    · intro h
      rw [show fr_imr e c a 0 = 0 from rfl, Nat.zero_testBit] at h
      exact absurd h (by decide)
    · intro ⟨r, hr, _⟩
      exact absurd hr (Nat.not_lt_zero r)
  | succ s ih =>
    by_cases h : c.testBit s = true ∧ 0 < fr_nx e s a
    · rw [fr_imr_t h.1 h.2, Nat.testBit_or, Bool.or_eq_true, ih, Nat.testBit_two_pow, decide_eq_true_iff]
      have h2 := h.2
      constructor
      · rintro (⟨r, hr, h3, h4⟩ | h3)
        · exact ⟨r, by omega, h3, h4⟩
        · exact ⟨s, by omega, h.1, by omega⟩
      · rintro ⟨r, hr, h3, h4⟩
        by_cases hrs : r = s
        · subst hrs
          right
          omega
        · left
          exact ⟨r, by omega, h3, h4⟩
    · rw [fr_imr_f h, ih]
      constructor
      · rintro ⟨r, hr, h3, h4⟩
        exact ⟨r, by omega, h3, h4⟩
      · rintro ⟨r, hr, h3, h4⟩
        refine ⟨r, ?_, h3, h4⟩
        have : r ≠ s := by
          intro z
          subst z
          exact h ⟨h3, by omega⟩
        omega
theorem fr_im_bit {N : Nat} {e : Nat → Nat} {c a t : Nat} : (fr_im N e c a).testBit t = true ↔ ∃ r, r < N ∧ c.testBit r = true ∧ fr_nx e r a = t + 1 := fr_imr_bit N
theorem fr_im_0 {N : Nat} {e : Nat → Nat} (a : Nat) : fr_im N e 0 a = 0 := by
  apply Nat.eq_of_testBit_eq
  intro t
  rw [Nat.zero_testBit]
  apply fr_bf
  intro h
  obtain ⟨r, _, h2, _⟩ := fr_im_bit.mp h
  rw [Nat.zero_testBit] at h2
  exact absurd h2 (by decide)
theorem fr_Gd_0 (N : Nat) (e : Nat → Nat) : fr_Gd N e 0 = true := by
  apply fr_Gd_iff.mpr
  intro s _ t _ h
  rw [Nat.zero_testBit] at h
  exact absurd h (by decide)
theorem fr_Gd_sub {N : Nat} {e : Nat → Nat} {c s t a : Nat} (h : fr_Gd N e c = true) (hs : s < N) (ht : t < N) (ha : a < 2) (h1 : c.testBit s = true) (h2 : c.testBit t = true) (o1 : 0 < fr_ou e s a) (o2 : 0 < fr_ou e t a) : fr_ou e s a = fr_ou e t a := by
  have h3 := (fr_lvl_far (by decide)).mp (fr_Gd_iff.mp h s hs t ht h1 h2) 0 (by decide)
  apply Classical.byContradiction
  intro z
  rw [fr_ex_of ha (fr_sx_0.mpr ⟨o1, o2, z⟩)] at h3
  exact absurd h3 (by decide)
end
section
/-! covers by places in the list of sets; lists in the order of comparing first places first; counts of steps -/
def fr_or (g : Nat → Nat) : Nat → Nat
  | 0 => 0
  | i + 1 => fr_or g i ||| g i
def fr_cl (N : Nat) (e : Nat → Nat) (k : Nat) (g : Nat → Nat) : Prop := ∀ i, i < k → ∀ a, a < 2 → ∃ j, j < k ∧ fr_sub (fr_im N e (g i) a) (g j)
def fr_CV (N : Nat) (e : Nat → Nat) (k : Nat) (g : Nat → Nat) : Prop := (∀ i, i < k → fr_Gd N e (g i) = true) ∧ fr_or g k = 2 ^ N - 1 ∧ fr_cl N e k g
def fr_g (N : Nat) (e : Nat → Nat) (q : Nat → Nat) : Nat → Nat := fun i => fr_f N e (q i)
def fr_ic (S k : Nat) (q : Nat → Nat) : Prop := (∀ i, i + 1 < k → q i < q (i + 1)) ∧ ∀ i, i < k → q i < S
def fr_lx (k : Nat) (q p : Nat → Nat) : Prop := ∃ i, i < k ∧ (∀ j, j < i → q j = p j) ∧ q i < p i
def fr_hd (N : Nat) (e : Nat → Nat) (k m : Nat) (p : Nat → Nat) : Prop := ∀ q, fr_ic (fr_S N e) k q → fr_CV N e k (fr_g N e q) → ¬ fr_lx m q p
def fr_no (N : Nat) (e : Nat → Nat) (k : Nat) : Prop := ∀ q, fr_ic (fr_S N e) k q → ¬ fr_CV N e k (fr_g N e q)
def fr_fc (N : Nat) (e : Nat → Nat) (k : Nat) (q : Nat → Nat) : Prop := fr_ic (fr_S N e) k q ∧ fr_CV N e k (fr_g N e q) ∧ fr_hd N e k k q
def fr_FC (N : Nat) (e : Nat → Nat) (k : Nat) (q : Nat → Nat) : Prop := 1 ≤ k ∧ k ≤ N ∧ (∀ k', 1 ≤ k' → k' < k → fr_no N e k') ∧ fr_fc N e k q
def fr_u (p : Nat → Nat) (j v : Nat) : Nat → Nat := fun i => if i = j then v else p i
theorem fr_us {p : Nat → Nat} {j v : Nat} : fr_u p j v j = v := if_pos rfl
theorem fr_un {p : Nat → Nat} {i j v : Nat} (h : i ≠ j) : fr_u p j v i = p i := if_neg h
theorem fr_or_c {g g' : Nat → Nat} : ∀ k, (∀ i, i < k → g i = g' i) → fr_or g k = fr_or g' k := by
  intro k
  induction k with
  | zero => intro _; rfl
  | succ k ih =>
    intro h
    show fr_or g k ||| g k = fr_or g' k ||| g' k
    rw [ih (fun i hi => h i (by omega)), h k (by omega)]
theorem fr_or_lt {g : Nat → Nat} {N : Nat} : ∀ k, (∀ i, i < k → g i < 2 ^ N) → fr_or g k < 2 ^ N := by
  intro k
  induction k with
  | zero => intro _; exact Nat.two_pow_pos N
  | succ k ih =>
    intro h
    exact Nat.or_lt_two_pow (ih (fun i hi => h i (by omega))) (h k (by omega))
theorem fr_or_bit {g : Nat → Nat} {x : Nat} : ∀ k, (fr_or g k).testBit x = true ↔ ∃ i, i < k ∧ (g i).testBit x = true := by
  intro k
  induction k with
  | zero =>
    constructor
    · intro h
      rw [show fr_or g 0 = 0 from rfl, Nat.zero_testBit] at h
      exact absurd h (by decide)
    · intro ⟨i, hi, _⟩
      exact absurd hi (Nat.not_lt_zero i)
  | succ k ih =>
    rw [show fr_or g (k + 1) = fr_or g k ||| g k from rfl, Nat.testBit_or, Bool.or_eq_true, ih]
    constructor
    · rintro (⟨i, hi, h⟩ | h)
      · exact ⟨i, by omega, h⟩
      · exact ⟨k, by omega, h⟩
    · rintro ⟨i, hi, h⟩
      by_cases hik : i = k
      · subst hik
        exact Or.inr h
      · exact Or.inl ⟨i, by omega, h⟩
theorem fr_cl_c {N : Nat} {e : Nat → Nat} {k : Nat} {g g' : Nat → Nat} (h : ∀ i, i < k → g i = g' i) (hc : fr_cl N e k g) : fr_cl N e k g' := by
  intro i hi a ha
  obtain ⟨j, hj, hs⟩ := hc i hi a ha
  refine ⟨j, hj, ?_⟩
  rw [← h i hi, ← h j hj]
  exact hs
theorem fr_CV_c {N : Nat} {e : Nat → Nat} {k : Nat} {g g' : Nat → Nat} (h : ∀ i, i < k → g i = g' i) (hc : fr_CV N e k g) : fr_CV N e k g' := by
  refine ⟨fun i hi => ?_, ?_, fr_cl_c h hc.2.2⟩
  · rw [← h i hi]
    exact hc.1 i hi
  · rw [← fr_or_c k h]
    exact hc.2.1
theorem fr_ic_top {S k : Nat} {q : Nat → Nat} (h : fr_ic S k q) : ∀ d i, i + d + 1 = k → q i + k ≤ S + i := by
  intro d
  induction d with
  | zero =>
    intro i hi
    have := h.2 i (by omega)
    omega
  | succ d ih =>
    intro i hi
    have h1 := ih (i + 1) (by omega)
    have h2 := h.1 i (by omega)
    omega
theorem fr_ic_le {S k : Nat} {q : Nat → Nat} (h : fr_ic S k q) {i : Nat} (hi : i < k) : q i + k ≤ S + i := fr_ic_top h (k - 1 - i) i (by omega)
theorem fr_le_lx {q p : Nat → Nat} : ∀ k, (∀ l, l < k → q l ≤ p l) → (∀ l, l < k → q l = p l) ∨ fr_lx k q p := by
  intro k
  induction k with
  | zero => intro _; exact Or.inl (fun l h => absurd h (Nat.not_lt_zero l))
  | succ k ih =>
    intro h
    rcases ih (fun l hl => h l (by omega)) with h1 | ⟨i, hi, h2, h3⟩
    · by_cases hk : q k = p k
      · left
        intro l hl
        by_cases hlk : l = k
        · rw [hlk]; exact hk
        · exact h1 l (by omega)
      · right
        have := h k (by omega)
        exact ⟨k, by omega, h1, by omega⟩
    · exact Or.inr ⟨i, by omega, h2, h3⟩
theorem fr_lx_tot {q p : Nat → Nat} : ∀ k, (∀ l, l < k → q l = p l) ∨ fr_lx k q p ∨ fr_lx k p q := by
  intro k
  induction k with
  | zero => exact Or.inl (fun l h => absurd h (Nat.not_lt_zero l))
  | succ k ih =>
    rcases ih with h | ⟨i, hi, h2, h3⟩ | ⟨i, hi, h2, h3⟩
    · rcases Nat.lt_trichotomy (q k) (p k) with z | z | z
      · exact Or.inr (Or.inl ⟨k, by omega, h, z⟩)
      · left
        intro l hl
        by_cases hlk : l = k
        · rw [hlk]; exact z
        · exact h l (by omega)
      · exact Or.inr (Or.inr ⟨k, by omega, fun j hj => (h j hj).symm, z⟩)
    · exact Or.inr (Or.inl ⟨i, by omega, h2, h3⟩)
    · exact Or.inr (Or.inr ⟨i, by omega, h2, h3⟩)
theorem fr_FC_u {N : Nat} {e : Nat → Nat} {k k' : Nat} {q q' : Nat → Nat} (h : fr_FC N e k q) (h' : fr_FC N e k' q') : k = k' ∧ ∀ i, i < k → q i = q' i := by
  obtain ⟨a1, a2, a3, a4, a5, a6⟩ := h
  obtain ⟨b1, b2, b3, b4, b5, b6⟩ := h'
  have hk : k = k' := by
    rcases Nat.lt_trichotomy k k' with z | z | z
    · exact absurd a5 (b3 k a1 z q a4)
    · exact z
    · exact absurd b5 (a3 k' b1 z q' b4)
  subst hk
  refine ⟨rfl, ?_⟩
  rcases fr_lx_tot (q := q) (p := q') k with z | z | z
  · exact z
  · exact absurd z (b6 q a4 a5)
  · exact absurd z (a6 q' b4 b5)
/-! the component's search -/
theorem fr_hd_0 {N : Nat} {e : Nat → Nat} {k : Nat} {p : Nat → Nat} (h : p 0 = 0) : fr_hd N e k 1 p := by
  intro q _ _ ⟨i, hi, _, h2⟩
  have : i = 0 := by omega
  subst this
  omega
theorem fr_hd_pop0 {N : Nat} {e : Nat → Nat} {k : Nat} {p : Nat → Nat} (hk : 1 ≤ k) (h : fr_hd N e k 1 p) (hp : fr_S N e < p 0 + k) : fr_no N e k := by
  intro q hq hc
  have h1 := fr_ic_le hq (i := 0) (by omega)
  exact h q hq hc ⟨0, by omega, fun j hj => absurd hj (Nat.not_lt_zero j), by omega⟩
theorem fr_hd_pop {N : Nat} {e : Nat → Nat} {k d : Nat} {p : Nat → Nat} (hd : d + 1 < k) (h : fr_hd N e k (d + 1 + 1) p) (hp : fr_S N e + (d + 1) < p (d + 1) + k) : fr_hd N e k (d + 1) (fr_u p d (p d + 1)) := by
  intro q hq hc ⟨i, hi, h1, h2⟩
  have h3 : ∀ j, j < i → q j = p j := fun j hj => by
    have := h1 j hj
    rw [fr_un (by omega)] at this
    exact this
  by_cases hid : i = d
  · subst hid
    rw [fr_us] at h2
    by_cases h4 : q i = p i
    · have h5 := fr_ic_le hq hd
      refine h q hq hc ⟨i + 1, by omega, fun j hj => ?_, by omega⟩
      by_cases hj2 : j = i
      · rw [hj2]; exact h4
      · exact h3 j (by omega)
    · exact h q hq hc ⟨i, by omega, h3, by omega⟩
  · rw [fr_un hid] at h2
    exact h q hq hc ⟨i, by omega, h3, h2⟩
theorem fr_hd_push {N : Nat} {e : Nat → Nat} {k d : Nat} {p : Nat → Nat} (hd : d + 1 < k) (h : fr_hd N e k (d + 1) p) : fr_hd N e k (d + 1 + 1) (fr_u p (d + 1) (p d + 1)) := by
  intro q hq hc ⟨i, hi, h1, h2⟩
  have h3 : ∀ j, j < i → q j = p j := fun j hj => by
    have := h1 j hj
    rw [fr_un (by omega)] at this
    exact this
  by_cases hid : i = d + 1
  · subst hid
    rw [fr_us] at h2
    have h4 := h3 d (by omega)
    have h5 := hq.1 d hd
    omega
  · rw [fr_un hid] at h2
    exact h q hq hc ⟨i, by omega, h3, h2⟩
theorem fr_hd_next {N : Nat} {e : Nat → Nat} {k d : Nat} {p : Nat → Nat} (h : fr_hd N e k (d + 1) p) (hn : ∀ q, fr_ic (fr_S N e) k q → fr_CV N e k (fr_g N e q) → (∀ j, j < d + 1 → q j = p j) → False) : fr_hd N e k (d + 1) (fr_u p d (p d + 1)) := by
  intro q hq hc ⟨i, hi, h1, h2⟩
  have h3 : ∀ j, j < i → q j = p j := fun j hj => by
    have := h1 j hj
    rw [fr_un (by omega)] at this
    exact this
  by_cases hid : i = d
  · subst hid
    rw [fr_us] at h2
    by_cases h4 : q i = p i
    · refine hn q hq hc (fun j hj => ?_)
      by_cases hj2 : j = i
      · rw [hj2]; exact h4
      · exact h3 j (by omega)
    · exact h q hq hc ⟨i, by omega, h3, by omega⟩
  · rw [fr_un hid] at h2
    exact h q hq hc ⟨i, by omega, h3, h2⟩
/-! the reference's next list -/
def fr_nl (p : Nat → Nat) (i : Nat) : Nat → Nat := fun j => if j < i then p j else p i + 1 + (j - i)
theorem fr_nl_lo {p : Nat → Nat} {i j : Nat} (h : j < i) : fr_nl p i j = p j := if_pos h
theorem fr_nl_hi {p : Nat → Nat} {i j : Nat} (h : ¬ j < i) : fr_nl p i j = p i + 1 + (j - i) := if_neg h
theorem fr_nl_ic {S k i : Nat} {p : Nat → Nat} (h : fr_ic S k p) (hi : i < k) (ht : p i + k < S + i) : fr_ic S k (fr_nl p i) := by
  constructor
  · intro j hj
    by_cases h1 : j + 1 < i
    · rw [fr_nl_lo (by omega), fr_nl_lo h1]
      exact h.1 j hj
    · by_cases h2 : j < i
      · have : j + 1 = i := by omega
        subst this
        rw [fr_nl_lo h2, fr_nl_hi (by omega)]
        have := h.1 j hj
        omega
      · rw [fr_nl_hi h2, fr_nl_hi (by omega)]
        omega
  · intro j hj
    by_cases h2 : j < i
    · rw [fr_nl_lo h2]
      exact h.2 j hj
    · rw [fr_nl_hi h2]
      omega
theorem fr_hd_nl {N : Nat} {e : Nat → Nat} {k i : Nat} {p : Nat → Nat} (h : fr_hd N e k k p) (hn : ¬ fr_CV N e k (fr_g N e p)) (hi : i < k) (ht : ∀ l, i < l → l < k → p l + k = fr_S N e + l) : fr_hd N e k k (fr_nl p i) := by
  intro q hq hc ⟨l, hl, h1, h2⟩
  by_cases hli : l < i
  · rw [fr_nl_lo hli] at h2
    exact h q hq hc ⟨l, hl, fun j hj => by have := h1 j hj; rw [fr_nl_lo (by omega)] at this; exact this, h2⟩
  · rw [fr_nl_hi hli] at h2
    have h3 : ∀ j, j < i → q j = p j := fun j hj => by have := h1 j (by omega); rw [fr_nl_lo hj] at this; exact this
    by_cases hl2 : l = i
    · subst hl2
      by_cases h4 : q l = p l
      · rcases fr_le_lx (q := q) (p := p) k (fun j hj => by
          rcases Nat.lt_trichotomy j l with z | z | z
          · rw [h3 j z]; exact Nat.le_refl _
          · rw [z, h4]; exact Nat.le_refl _
          · have h5 := ht j z hj
            have h6 := fr_ic_le hq hj
            omega) with z | z
        · exact hn (fr_CV_c (fun j hj => by show fr_f N e (q j) = fr_f N e (p j); rw [z j hj]) hc)
        · exact h q hq hc z
      · exact h q hq hc ⟨l, hl, h3, by omega⟩
    · have h4 := h1 (l - 1) (by omega)
      rw [fr_nl_hi (by omega)] at h4
      have h5 := hq.1 (l - 1) (by omega)
      rw [show l - 1 + 1 = l from by omega] at h5
      omega
theorem fr_hd_last {N : Nat} {e : Nat → Nat} {k : Nat} {p : Nat → Nat} (h : fr_hd N e k k p) (hn : ¬ fr_CV N e k (fr_g N e p)) (ht : ∀ l, l < k → p l + k = fr_S N e + l) : fr_no N e k := by
  intro q hq hc
  rcases fr_le_lx (q := q) (p := p) k (fun j hj => by
    have h5 := ht j hj
    have h6 := fr_ic_le hq hj
    omega) with z | z
  · exact hn (fr_CV_c (fun j hj => by show fr_f N e (q j) = fr_f N e (p j); rw [z j hj]) hc)
  · exact h q hq hc z
theorem fr_hd_first {N : Nat} {e : Nat → Nat} {k : Nat} {p : Nat → Nat} (h : ∀ l, l < k → p l = l) : fr_hd N e k k p := by
  intro q hq hc ⟨i, hi, h1, h2⟩
  have hge : ∀ l, l < k → l ≤ q l := by
    intro l
    induction l with
    | zero => intro _; exact Nat.zero_le _
    | succ l ih =>
      intro hl
      have a1 := ih (by omega)
      have a2 := hq.1 l hl
      omega
  have a3 := hge i hi
  rw [h i hi] at h2
  omega
/-! counts -/
def fr_ac (c : Nat) (g : Nat → Nat) : Nat → Nat
  | 0 => c
  | m + 1 => c + g (m + 1) + fr_ac c g m
def fr_G (c : Nat) : Nat → Nat → Nat
  | 0 => fun m => m + c
  | j + 1 => fr_ac c (fr_G c j)
theorem fr_G_0 (c j : Nat) : fr_G c j 0 = c := by
  cases j with
  | zero => exact Nat.zero_add c
  | succ j => rfl
theorem fr_G_s (c j m : Nat) : fr_G c (j + 1) (m + 1) = c + fr_G c j (m + 1) + fr_G c (j + 1) m := rfl
theorem fr_G_up (c j m : Nat) : fr_G c j m ≤ fr_G c j (m + 1) := by
  cases j with
  | zero => show m + c ≤ m + 1 + c; omega
  | succ j => rw [fr_G_s]; omega
theorem fr_G1_up (j m : Nat) : fr_G 1 j m + 1 ≤ fr_G 1 j (m + 1) := by
  cases j with
  | zero => show m + 1 + 1 ≤ m + 1 + 1; omega
  | succ j => rw [fr_G_s]; omega
theorem fr_G_mono (c j : Nat) {m : Nat} : ∀ n, m ≤ n → fr_G c j m ≤ fr_G c j n := by
  intro n
  induction n with
  | zero => intro h; rw [show m = 0 from by omega]; exact Nat.le_refl _
  | succ n ih =>
    intro h
    by_cases hm : m = n + 1
    · rw [hm]; exact Nat.le_refl _
    · exact Nat.le_trans (ih (by omega)) (fr_G_up c j n)
theorem fr_G_X : fr_G 1 0 31 ≤ 400000 ∧ fr_G 1 1 30 ≤ 400000 ∧ fr_G 1 2 29 ≤ 400000 ∧ fr_G 1 3 28 ≤ 400000 := by decide +kernel
theorem fr_G_X4 : fr_G 1 4 27 ≤ 400000 := by decide +kernel
theorem fr_G_Y : fr_G 0 0 31 ≤ 180000 ∧ fr_G 0 1 30 ≤ 180000 ∧ fr_G 0 2 29 ≤ 180000 ∧ fr_G 0 3 28 ≤ 180000 := by decide +kernel
theorem fr_G_Y4 : fr_G 0 4 27 ≤ 180000 := by decide +kernel
theorem fr_G_Xk {k S : Nat} (h1 : 1 ≤ k) (h5 : k ≤ 5) (hS : S ≤ 31) : fr_G 1 (k - 1) (S + 1 - k) ≤ 400000 := by
  have h : fr_G 1 (k - 1) (S + 1 - k) ≤ fr_G 1 (k - 1) (32 - k) := fr_G_mono 1 (k - 1) _ (by omega)
  refine Nat.le_trans h ?_
  obtain ⟨a0, a1, a2, a3⟩ := fr_G_X
  have : k = 1 ∨ k = 2 ∨ k = 3 ∨ k = 4 ∨ k = 5 := by omega
  rcases this with rfl | rfl | rfl | rfl | rfl
  · exact a0
  · exact a1
  · exact a2
  · exact a3
  · exact fr_G_X4
theorem fr_G_Yk {k S : Nat} (h1 : 1 ≤ k) (h5 : k ≤ 5) (hS : S ≤ 31) : fr_G 0 (k - 1) (S + 1 - k) ≤ 180000 := by
  have h : fr_G 0 (k - 1) (S + 1 - k) ≤ fr_G 0 (k - 1) (32 - k) := fr_G_mono 0 (k - 1) _ (by omega)
  refine Nat.le_trans h ?_
  obtain ⟨a0, a1, a2, a3⟩ := fr_G_Y
  have : k = 1 ∨ k = 2 ∨ k = 3 ∨ k = 4 ∨ k = 5 := by omega
  rcases this with rfl | rfl | rfl | rfl | rfl
  · exact a0
  · exact a1
  · exact a2
  · exact a3
  · exact fr_G_Y4
def fr_sm (g : Nat → Nat) : Nat → Nat
  | 0 => 0
  | l + 1 => fr_sm g l + g l
theorem fr_sm_s (g : Nat → Nat) (l : Nat) : fr_sm g (l + 1) = fr_sm g l + g l := rfl
theorem fr_sm_c {g g' : Nat → Nat} : ∀ k, (∀ i, i < k → g i = g' i) → fr_sm g k = fr_sm g' k := by
  intro k
  induction k with
  | zero => intro _; rfl
  | succ k ih =>
    intro h
    rw [fr_sm_s, fr_sm_s, ih (fun i hi => h i (by omega)), h k (by omega)]
theorem fr_sm_mono {g : Nat → Nat} {m : Nat} : ∀ n, m ≤ n → fr_sm g m ≤ fr_sm g n := by
  intro n
  induction n with
  | zero => intro h; rw [show m = 0 from by omega]; exact Nat.le_refl _
  | succ n ih =>
    intro h
    by_cases hm : m = n + 1
    · rw [hm]; exact Nat.le_refl _
    · have := ih (by omega)
      rw [fr_sm_s]
      omega
/-- steps that the component's search has still to make -/
def fr_px (S k d : Nat) (p : Nat → Nat) : Nat := fr_sm (fun i => fr_G 1 (k - 1 - i) (S + i - (k + p i))) d + fr_G 1 (k - 1 - d) (S + d + 1 - (k + p d))
theorem fr_px_pos (S k d : Nat) (p : Nat → Nat) : 1 ≤ fr_px S k d p := by
  have h : fr_G 1 (k - 1 - d) 0 ≤ fr_G 1 (k - 1 - d) (S + d + 1 - (k + p d)) := fr_G_mono 1 _ _ (Nat.zero_le _)
  rw [fr_G_0] at h
  unfold fr_px
  omega
theorem fr_px_pop {S k d : Nat} {p : Nat → Nat} : fr_px S k d (fr_u p d (p d + 1)) + 1 ≤ fr_px S k (d + 1) p := by
  have h : fr_G 1 (k - 1 - (d + 1)) 0 ≤ fr_G 1 (k - 1 - (d + 1)) (S + (d + 1) + 1 - (k + p (d + 1))) := fr_G_mono 1 _ _ (Nat.zero_le _)
  rw [fr_G_0] at h
  unfold fr_px
  rw [fr_sm_s, fr_us, fr_sm_c d (g := fun i => fr_G 1 (k - 1 - i) (S + i - (k + fr_u p d (p d + 1) i))) (g' := fun i => fr_G 1 (k - 1 - i) (S + i - (k + p i))) (fun i hi => by show fr_G 1 (k - 1 - i) (S + i - (k + fr_u p d (p d + 1) i)) = fr_G 1 (k - 1 - i) (S + i - (k + p i)); rw [fr_un (by omega)]), show S + d + 1 - (k + (p d + 1)) = S + d - (k + p d) from by omega]
  show fr_sm (fun i => fr_G 1 (k - 1 - i) (S + i - (k + p i))) d + fr_G 1 (k - 1 - d) (S + d - (k + p d)) + 1 ≤ fr_sm (fun i => fr_G 1 (k - 1 - i) (S + i - (k + p i))) d + fr_G 1 (k - 1 - d) (S + d - (k + p d)) + fr_G 1 (k - 1 - (d + 1)) (S + (d + 1) + 1 - (k + p (d + 1)))
  omega
theorem fr_px_next {S k d : Nat} {p : Nat → Nat} (h : p d + k ≤ S + d) : fr_px S k d (fr_u p d (p d + 1)) + 1 ≤ fr_px S k d p := by
  unfold fr_px
  have h1 := fr_G1_up (k - 1 - d) (S + d - (k + p d))
  rw [fr_us, fr_sm_c d (g := fun i => fr_G 1 (k - 1 - i) (S + i - (k + fr_u p d (p d + 1) i))) (g' := fun i => fr_G 1 (k - 1 - i) (S + i - (k + p i))) (fun i hi => by show fr_G 1 (k - 1 - i) (S + i - (k + fr_u p d (p d + 1) i)) = fr_G 1 (k - 1 - i) (S + i - (k + p i)); rw [fr_un (by omega)]), show S + d + 1 - (k + (p d + 1)) = S + d - (k + p d) from by omega, show S + d + 1 - (k + p d) = S + d - (k + p d) + 1 from by omega]
  omega
theorem fr_px_push {S k d : Nat} {p : Nat → Nat} (hd : d + 1 < k) (h : p d + k ≤ S + d) : fr_px S k (d + 1) (fr_u p (d + 1) (p d + 1)) + 1 ≤ fr_px S k d p := by
  unfold fr_px
  have h1 := fr_G_s 1 (k - 1 - (d + 1)) (S + d - (k + p d))
  rw [show k - 1 - (d + 1) + 1 = k - 1 - d from by omega] at h1
  rw [fr_us, fr_sm_c (d + 1) (g := fun i => fr_G 1 (k - 1 - i) (S + i - (k + fr_u p (d + 1) (p d + 1) i))) (g' := fun i => fr_G 1 (k - 1 - i) (S + i - (k + p i))) (fun i hi => by show fr_G 1 (k - 1 - i) (S + i - (k + fr_u p (d + 1) (p d + 1) i)) = fr_G 1 (k - 1 - i) (S + i - (k + p i)); rw [fr_un (by omega)]), fr_sm_s, show S + (d + 1) + 1 - (k + (p d + 1)) = S + d - (k + p d) + 1 from by omega, show S + d + 1 - (k + p d) = S + d - (k + p d) + 1 from by omega]
  show fr_sm (fun i => fr_G 1 (k - 1 - i) (S + i - (k + p i))) d + fr_G 1 (k - 1 - d) (S + d - (k + p d)) + fr_G 1 (k - 1 - (d + 1)) (S + d - (k + p d) + 1) + 1 ≤ fr_sm (fun i => fr_G 1 (k - 1 - i) (S + i - (k + p i))) d + fr_G 1 (k - 1 - d) (S + d - (k + p d) + 1)
  omega
theorem fr_px_0 {S k : Nat} {p : Nat → Nat} (h1 : 1 ≤ k) (h5 : k ≤ 5) (hS : S ≤ 31) (h0 : p 0 = 0) : fr_px S k 0 p ≤ 400000 := by
  unfold fr_px
  rw [h0]
  show 0 + fr_G 1 (k - 1 - 0) (S + 0 + 1 - (k + 0)) ≤ 400000
  rw [Nat.zero_add, Nat.sub_zero, Nat.add_zero, Nat.add_zero]
  exact fr_G_Xk h1 h5 hS
/-- rounds that the reference has still to make -/
def fr_py (S k : Nat) (p : Nat → Nat) : Nat := fr_sm (fun i => fr_G 0 (k - 1 - i) (S + i - (k + p i))) k
theorem fr_hs (j m : Nat) : ∀ r, r ≤ j → fr_sm (fun t => fr_G 0 (j - t) m) r + fr_G 0 (j - r) (m + 1) = fr_G 0 j (m + 1) := by
  intro r
  induction r with
  | zero => intro _; show 0 + fr_G 0 (j - 0) (m + 1) = _; rw [Nat.zero_add, Nat.sub_zero]
  | succ r ih =>
    intro hr
    have h1 := ih (by omega)
    have h2 := fr_G_s 0 (j - (r + 1)) m
    rw [show j - (r + 1) + 1 = j - r from by omega] at h2
    rw [fr_sm_s]
    show fr_sm (fun t => fr_G 0 (j - t) m) r + fr_G 0 (j - r) m + fr_G 0 (j - (r + 1)) (m + 1) = _
    omega
theorem fr_hs2 (j m : Nat) : fr_sm (fun t => fr_G 0 (j - t) m) (j + 1) + 1 = fr_G 0 j (m + 1) := by
  have h1 := fr_hs j m j (Nat.le_refl j)
  rw [fr_sm_s]
  show fr_sm (fun t => fr_G 0 (j - t) m) j + fr_G 0 (j - j) m + 1 = _
  rw [Nat.sub_self] at h1 ⊢
  have h2 : fr_G 0 0 (m + 1) = m + 1 := rfl
  have h3 : fr_G 0 0 m = m := rfl
  omega
theorem fr_py_nl {S k i : Nat} {p : Nat → Nat} (hi : i < k) (ht : p i + k < S + i) : fr_py S k (fr_nl p i) + 1 ≤ fr_py S k p := by
  unfold fr_py
  obtain ⟨m, hm⟩ : ∃ m, S + i - (k + p i) = m + 1 := ⟨S + i - (k + p i) - 1, by omega⟩
  have h1 : ∀ r, i + r ≤ k → fr_sm (fun l => fr_G 0 (k - 1 - l) (S + l - (k + fr_nl p i l))) (i + r) = fr_sm (fun l => fr_G 0 (k - 1 - l) (S + l - (k + p l))) i + fr_sm (fun t => fr_G 0 (k - 1 - i - t) m) r := by
    intro r
    induction r with
    | zero =>
      intro _
      show _ = _ + 0
      rw [Nat.add_zero, Nat.add_zero]
      exact fr_sm_c i (fun l hl => by show fr_G 0 (k - 1 - l) (S + l - (k + fr_nl p i l)) = fr_G 0 (k - 1 - l) (S + l - (k + p l)); rw [fr_nl_lo hl])
    | succ r ih =>
      intro hr
      rw [show i + (r + 1) = i + r + 1 from by omega, fr_sm_s, fr_sm_s, ih (by omega)]
      show _ + fr_G 0 (k - 1 - (i + r)) (S + (i + r) - (k + fr_nl p i (i + r))) = _ + (_ + fr_G 0 (k - 1 - i - r) m)
      rw [fr_nl_hi (by omega), show k - 1 - (i + r) = k - 1 - i - r from by omega, show S + (i + r) - (k + (p i + 1 + (i + r - i))) = m from by omega]
      omega
  have h2 := h1 (k - 1 - i + 1) (by omega)
  rw [show i + (k - 1 - i + 1) = k from by omega] at h2
  have h3 := fr_hs2 (k - 1 - i) m
  have h4 : fr_sm (fun l => fr_G 0 (k - 1 - l) (S + l - (k + p l))) (i + 1) ≤ fr_sm (fun l => fr_G 0 (k - 1 - l) (S + l - (k + p l))) k := fr_sm_mono k hi
  rw [fr_sm_s] at h4
  have h5 : fr_sm (fun l => fr_G 0 (k - 1 - l) (S + l - (k + p l))) i + fr_G 0 (k - 1 - i) (S + i - (k + p i)) ≤ fr_sm (fun l => fr_G 0 (k - 1 - l) (S + l - (k + p l))) k := h4
  rw [hm] at h5
  omega
theorem fr_py_0 {S k : Nat} {p : Nat → Nat} (h1 : 1 ≤ k) (h5 : k ≤ 5) (hS : S ≤ 31) (hk : k ≤ S) (h0 : ∀ l, l < k → p l = l) : fr_py S k p ≤ 180000 := by
  unfold fr_py
  have e1 : fr_sm (fun i => fr_G 0 (k - 1 - i) (S + i - (k + p i))) k = fr_sm (fun t => fr_G 0 (k - 1 - t) (S - k)) k := fr_sm_c k (fun i hi => by
    show fr_G 0 (k - 1 - i) (S + i - (k + p i)) = fr_G 0 (k - 1 - i) (S - k)
    rw [h0 i hi, show S + i - (k + i) = S - k from by omega])
  have e2 := fr_hs2 (k - 1) (S - k)
  rw [show k - 1 + 1 = k from by omega, show S - k + 1 = S + 1 - k from by omega] at e2
  have e3 := fr_G_Yk h1 h5 hS
  rw [e1]
  omega
/-! n sets of one member are a cover -/
theorem fr_or_pow (N : Nat) : fr_or (fun i => 2 ^ i) N = 2 ^ N - 1 := by
  apply Nat.eq_of_testBit_eq
  intro x
  rw [Nat.testBit_two_pow_sub_one]
  by_cases h : x < N
  · rw [decide_eq_true h]
    exact (fr_or_bit N).mpr ⟨x, h, by rw [Nat.testBit_two_pow_self]⟩
  · rw [decide_eq_false h]
    apply fr_bf
    intro z
    obtain ⟨i, hi, hz⟩ := (fr_or_bit N).mp z
    have hz2 : (2 ^ i).testBit x = true := hz
    rw [Nat.testBit_two_pow, decide_eq_true_iff] at hz2
    omega
theorem fr_Q_pow {N : Nat} (e : Nat → Nat) (i : Nat) : fr_Q N e (2 ^ i) = true := by
  refine fr_Q_iff.mpr ⟨Nat.two_pow_pos i, fr_Gd_iff.mpr (fun s _ t _ h1 h2 => ?_)⟩
  rw [Nat.testBit_two_pow, decide_eq_true_iff] at h1 h2
  subst h1
  subst h2
  exact fr_lvl_irr e _ (by decide)
theorem fr_exN {N : Nat} {e : Nat → Nat} (hV : fr_V N e) : ¬ fr_no N e N := by
  intro h
  have hf : ∀ i, i < N → fr_f N e (fr_ps N e (2 ^ i)) = 2 ^ i ∧ fr_ps N e (2 ^ i) < fr_S N e := fun i hi => fr_f_ps (Nat.pow_lt_pow_right (by decide) hi) (fr_Q_pow e i)
  refine h (fun i => fr_ps N e (2 ^ i)) ⟨fun i hi => ?_, fun i hi => (hf i hi).2⟩ ?_
  · exact fr_cnt_lt (Nat.pow_lt_pow_right (by decide) (Nat.lt_succ_self i)) (fr_Q_pow e i)
  · refine fr_CV_c (g := fun i => 2 ^ i) (fun i hi => (hf i hi).1.symm) ⟨fun i hi => (fr_Q_iff.mp (fr_Q_pow e i)).2, fr_or_pow N, fun i hi a ha => ?_⟩
    by_cases hz : fr_nx e i a = 0
    · refine ⟨0, by have := hV.1; omega, ?_⟩
      apply fr_sub_iff.mpr
      intro x hx
      obtain ⟨r, hr, h1, h2⟩ := fr_im_bit.mp hx
      have h3 : (2 ^ i).testBit r = true := h1
      rw [Nat.testBit_two_pow, decide_eq_true_iff] at h3
      subst h3
      omega
    · have hle := fr_nx_le hV i a
      refine ⟨fr_nx e i a - 1, by omega, ?_⟩
      apply fr_sub_iff.mpr
      intro x hx
      obtain ⟨r, hr, h1, h2⟩ := fr_im_bit.mp hx
      have h3 : (2 ^ i).testBit r = true := h1
      rw [Nat.testBit_two_pow, decide_eq_true_iff] at h3
      subst h3
      show (2 ^ (fr_nx e i a - 1)).testBit x = true
      rw [Nat.testBit_two_pow, decide_eq_true_iff]
      omega
end
section
/-! the component: next, output, splits, levels -/
theorem fr_SP_0 {e : Nat → Nat} {lv : Nat → Int32} {a s t : Nat} : fr_SP e lv 0 a s t ↔ (0 < fr_ou e s a ∧ 0 < fr_ou e t a ∧ fr_ou e s a ≠ fr_ou e t a) := Iff.rfl
theorem fr_SP_s {e : Nat → Nat} {lv : Nat → Int32} {L a s t : Nat} : fr_SP e lv (L + 1) a s t ↔ (0 < fr_nx e s a ∧ 0 < fr_nx e t a ∧ lv (5 * (fr_nx e s a - 1) + (fr_nx e t a - 1)) = nI (L + 1)) := Iff.rfl
def fr_LI (N : Nat) (e : Nat → Nat) (B k : Nat) (lv : Nat → Int32) : Prop := ∀ s t, s < N → t < N → lv (5 * s + t) = nI (fr_lvl e (if N * s + t < k then B + 1 else B) s t)
def fr_LV (N : Nat) (e : Nat → Nat) (B : Nat) (lv : Nat → Int32) : Prop := ∀ s t, s < N → t < N → lv (5 * s + t) = nI (fr_lvl e B s t)
theorem fr_LI_s {N : Nat} {e : Nat → Nat} {B s t : Nat} {lv lv' : Nat → Int32} (hN : N ≤ 5) (hs : s < N) (ht : t < N) (h : fr_LI N e B (N * s + t) lv) (h1 : lv' (5 * s + t) = nI (fr_lvl e (B + 1) s t)) (h2 : ∀ j, j ≠ 5 * s + t → lv' j = lv j) : fr_LI N e B (N * s + t + 1) lv' := by
  intro s' t' hs' ht'
  by_cases hc : N * s' + t' = N * s + t
  · obtain ⟨h3, h4⟩ := fr_inj ht' ht hc
    subst h3
    subst h4
    rw [if_pos (by omega)]
    exact h1
  · have hne : 5 * s' + t' ≠ 5 * s + t := by
      intro z
      obtain ⟨h3, h4⟩ := fr_inj (N := 5) (by omega) (by omega) z
      exact hc (by rw [h3, h4])
    rw [h2 _ hne, h s' t' hs' ht']
    by_cases hl : N * s' + t' < N * s + t
    · rw [if_pos hl, if_pos (by omega)]
    · rw [if_neg hl, if_neg (by omega)]
theorem fr_lvn {e : Nat → Nat} {B s t : Nat} (hB : B ≤ 900) : fr_lvl e B s t < 2 ^ 31 := Nat.lt_of_le_of_lt (fr_lvl_le hB) (by decide)
section
variable {N : Nat} {e : Nat → Nat} {f_setCount f_largestCount f_coverCount f_current f_state f_inClass : Int32} {a_level a_sets a_later a_largest a_pick a_union a_cover a_nextClass a_classOut : Nat → Int32}
theorem fr_x_next {post : Int32 → Prop} {s a : Nat} (hV : fr_V N e) (hs : s < 5) (ha : a < 2) (h : post (nI (fr_nx e s a) - 1)) : wpX_next post ((nI N), f_setCount, f_largestCount, f_coverCount, f_current, f_state, f_inClass, (fr_E e), a_level, a_sets, a_later, a_largest, a_pick, a_union, a_cover, a_nextClass, a_classOut) (nI s) (nI a) := by
  unfold wpX_next
  dsimp only
  have h18 := fr_V18 hV (2 * s + a)
  rw [fr_ix2, nI_clamp (by omega)]
  refine ⟨vp_in_nI (by omega) (by omega), fr_30, ?_⟩
  rw [show fr_E e (2 * s + a) / 3 = nI (fr_nx e s a) from pk_div (d := 3) (by omega) (by decide) (by decide)]
  exact h
theorem fr_x_output {post : Int32 → Prop} {s a : Nat} (hV : fr_V N e) (hs : s < 5) (ha : a < 2) (h : post (nI (fr_ou e s a) - 1)) : wpX_output post ((nI N), f_setCount, f_largestCount, f_coverCount, f_current, f_state, f_inClass, (fr_E e), a_level, a_sets, a_later, a_largest, a_pick, a_union, a_cover, a_nextClass, a_classOut) (nI s) (nI a) := by
  unfold wpX_output
  dsimp only
  have h18 := fr_V18 hV (2 * s + a)
  rw [fr_ix2, nI_clamp (by omega)]
  refine ⟨vp_in_nI (by omega) (by omega), fr_30, ?_⟩
  rw [show fr_E e (2 * s + a) - fr_E e (2 * s + a) / 3 * 3 = nI (fr_ou e s a) from pk_rem (d := 3) (by omega) (by decide) (by decide)]
  exact h
theorem fr_x_splits {post : Int32 → Prop} {s t a L : Nat} (hV : fr_V N e) (hs : s < N) (ht : t < N) (ha : a < 2) (hL : L < 100) (h1 : fr_SP e a_level L a s t → post 1) (h0 : ¬ fr_SP e a_level L a s t → post 0) : wpX_splits post ((nI N), f_setCount, f_largestCount, f_coverCount, f_current, f_state, f_inClass, (fr_E e), a_level, a_sets, a_later, a_largest, a_pick, a_union, a_cover, a_nextClass, a_classOut) (nI s) (nI t) (nI a) (nI (L + 1)) := by
  have h5 := hV.2.1
  cases L with
  | zero =>
    rw [fr_SP_0] at h0 h1
    have o1 := fr_ou_lt e s a
    have o2 := fr_ou_lt e t a
    refine br_t rfl (fr_x_output hV (by omega) ha (fr_x_output hV (by omega) ha ?_))
    exact fr_brM (by omega) (fun z => h0 (fun y => by have := y.1; omega)) (fun z1 => fr_brM (by omega) (fun z => h0 (fun y => by have := y.2.1; omega)) (fun z2 => fr_brE (by omega) (by omega) (fun z => h0 (fun y => y.2.2 z)) (fun z => h1 ⟨z1, z2, z⟩)))
  | succ L =>
    rw [fr_SP_s] at h0 h1
    have n1 := fr_nx_le hV s a
    have n2 := fr_nx_le hV t a
    refine br_f ?_ (fr_x_next hV (by omega) ha (fr_x_next hV (by omega) ha ?_))
    · show ¬ nI (L + 1 + 1) = nI 1
      rw [nI_eq (by omega) (by omega)]
      omega
    · refine fr_brM (by omega) (fun z => h0 (fun y => by have := y.1; omega)) (fun z1 => fr_brM (by omega) (fun z => h0 (fun y => by have := y.2.1; omega)) (fun z2 => ?_))
      rw [fr_pr z1, fr_pr z2, fr_ix5, nI_clamp (by omega), nI_pred]
      refine ⟨vp_in_nI (by omega) (by omega), ?_⟩
      exact ⟨fun z => h1 ⟨z1, z2, z⟩, fun z => h0 (fun y => z y.2.2)⟩
theorem fr_x_lp33 {post : SX → Prop} {J25 : Int32 → (Nat → Int32) → (Nat → Int32) → (Nat → Int32) → (Nat → Int32) → (Nat → Int32) → (Nat → Int32) → (Nat → Int32) → (Nat → Int32) → (Nat → Int32) → (Nat → Int32) →  Prop} {B : Nat} (hV : fr_V N e) (hB : B < 25) (HJ : ∀ lv, fr_LI N e B (N * N) lv → J25 (nI (B + 1 + 1)) (fr_E e) lv a_sets a_later a_largest a_pick a_union a_cover a_nextClass a_classOut) : ∀ d k, k + d = N * N → ∀ lv, fr_LI N e B k lv → wX_levelPairs_33 post J25 (nI (B + 1)) (nI N) f_setCount f_largestCount f_coverCount f_current f_state f_inClass (d + 1) (nI k) (fr_E e) lv a_sets a_later a_largest a_pick a_union a_cover a_nextClass a_classOut := by
  have h5 := hV.2.1
  have h25 := fr_sq h5
  intro d
  induction d with
  | zero =>
    intro k hk lv hI
    have hk' : k = N * N := by omega
    subst hk'
    exact br_t (by rw [pk_mul]; exact Int32.le_refl _) (nm_r (nI_1 _) (HJ lv hI))
  | succ d ih =>
    intro k hk lv hI
    obtain ⟨s, t, hs, ht, rfl⟩ := fr_split (N := N) (k := k) (by omega)
    have hn0 : ¬ nI N = 0 := nI_ne0 (by omega) (by omega)
    have hc : (5 * nI s + nI t).toNatClampNeg = 5 * s + t := by rw [fr_ix5]; exact nI_clamp (by omega)
    have hin : vp_in (5 * nI s + nI t) 25 := by rw [fr_ix5]; exact vp_in_nI (by omega) (by omega)
    have hv : lv (5 * s + t) = nI (fr_lvl e B s t) := by
      have := hI s t hs ht
      rw [if_neg (Nat.lt_irrefl _)] at this
      exact this
    have hu : fr_lvl e (B + 1) s t = if fr_lvl e B s t = 1000 then (if fr_ex e B s t = true then B + 1 else 1000) else fr_lvl e B s t := rfl
    have hle : fr_lvl e B s t ≤ 1000 := fr_lvl_le (by omega)
    have hskip : fr_lvl e (B + 1) s t = fr_lvl e B s t → wX_levelPairs_33 post J25 (nI (B + 1)) (nI N) f_setCount f_largestCount f_coverCount f_current f_state f_inClass (d + 1) (nI (N * s + t + 1)) (fr_E e) lv a_sets a_later a_largest a_pick a_union a_cover a_nextClass a_classOut := fun z => ih (N * s + t + 1) (by omega) lv (fr_LI_s h5 hs ht hI (by rw [hv, z]) (fun _ _ => rfl))
    have hst : fr_lvl e B s t = 1000 → fr_ex e B s t = true → wX_levelPairs_102 post J25 (wX_levelPairs_33 post J25 (nI (B + 1)) (nI N) f_setCount f_largestCount f_coverCount f_current f_state f_inClass (d + 1)) (nI (B + 1)) (nI (N * s + t)) (nI s) (nI t) (nI N) f_setCount f_largestCount f_coverCount f_current f_state f_inClass (fr_E e) lv a_sets a_later a_largest a_pick a_union a_cover a_nextClass a_classOut := by
      intro z1 z2
      refine And.intro hin (nm_r (e' := upd lv (5 * s + t) (nI (B + 1))) (by rw [hc]) (nm_r (nI_1 _) (ih (N * s + t + 1) (by omega) _ (fr_LI_s h5 hs ht hI ?_ ?_))))
      · rw [pk_us, hu, if_pos z1, if_pos z2]
      · intro j hj
        exact pk_un hj
    have hx : fr_lvl e B s t = 1000 → ∀ a, a < 2 → (fr_SP e lv B a s t ↔ fr_sx e B a s t = true) := by
      intro z a ha
      refine fr_SPx hV ha ((fr_lvl_far (by omega)).mp z) ?_
      intro p q b hp hq hb
      rw [hI p q hp hq]
      by_cases hl : N * p + q < N * s + t
      · rw [if_pos hl, nI_eq (fr_lvn (by omega)) (by omega), hb, fr_lvl_eq (by omega) (by omega)]
        exact ⟨fun z => z.2, fun z => ⟨by omega, z⟩⟩
      · rw [if_neg hl, nI_eq (fr_lvn (by omega)) (by omega), hb, fr_lvl_eq (by omega) (by omega)]
        exact ⟨fun z => z.2, fun z => ⟨by omega, z⟩⟩
    refine br_f ?_ ⟨hn0, nm_r (fr_div h5 hs ht) ⟨hn0, nm_r (fr_rem h5 hs ht) ⟨hin, ?_⟩⟩⟩
    · rw [pk_mul]
      exact nI_ge (by omega) (by omega)
    rw [hc, hv]
    by_cases hz : fr_lvl e B s t = 1000
    · refine br_t (by rw [hz]; rfl) (fr_x_splits (a := 0) (L := B) hV hs ht (by decide) (by omega) (fun z => br_f fr_01 (hst hz ?_)) (fun y0 => br_t rfl (fr_x_splits (a := 1) (L := B) hV hs ht (by decide) (by omega) (fun z => br_f fr_01 (hst hz ?_)) (fun y1 => br_t rfl (nm_r (nI_1 _) (hskip ?_))))))
      · exact fr_ex_of (by decide) ((hx hz 0 (by decide)).mp z)
      · exact fr_ex_of (by decide) ((hx hz 1 (by decide)).mp z)
      · rw [hu, if_pos hz, if_neg, hz]
        intro w
        obtain ⟨a, ha, hw⟩ := fr_ex_to w
        have h01 : a = 0 ∨ a = 1 := by omega
        rcases h01 with rfl | rfl
        · exact y0 ((hx hz 0 ha).mpr hw)
        · exact y1 ((hx hz 1 ha).mpr hw)
    · exact br_f (fun z => hz ((nI_eq (b := 1000) (by omega) (by decide)).mp z)) (nm_r (nI_1 _) (hskip (by rw [hu, if_neg hz])))
theorem fr_x_lp25 {post : SX → Prop} (hV : fr_V N e) (HP : ∀ lv, fr_LV N e 25 lv → post ((nI N), f_setCount, f_largestCount, f_coverCount, f_current, f_state, f_inClass, (fr_E e), lv, a_sets, a_later, a_largest, a_pick, a_union, a_cover, a_nextClass, a_classOut)) : ∀ d B, B + d = 25 → ∀ lv, fr_LV N e B lv → wX_levelPairs_25 post (nI N) f_setCount f_largestCount f_coverCount f_current f_state f_inClass (d + 1) (nI (B + 1)) (fr_E e) lv a_sets a_later a_largest a_pick a_union a_cover a_nextClass a_classOut := by
  intro d
  induction d with
  | zero =>
    intro B hB lv hI
    have hB' : B = 25 := by omega
    subst hB'
    exact br_t (by decide) (HP lv hI)
  | succ d ih =>
    intro B hB lv hI
    refine br_f (nI_nlt (a := 25) (b := B + 1) (by omega) (by decide)) ⟨N * N + 1, fr_x_lp33 hV (by omega) (fun lv' h' => ih (B + 1) (by omega) lv' (fun s t hs ht => ?_)) (N * N) 0 (by omega) lv (fun s t hs ht => ?_)⟩
    · have := h' s t hs ht
      rw [if_pos (fr_lin hs ht)] at this
      exact this
    · rw [if_neg (Nat.not_lt_zero _)]
      exact hI s t hs ht
theorem fr_x_lp2 {post : SX → Prop} (hV : fr_V N e) (HP : ∀ lv, fr_LV N e 25 lv → post ((nI N), f_setCount, f_largestCount, f_coverCount, f_current, f_state, f_inClass, (fr_E e), lv, a_sets, a_later, a_largest, a_pick, a_union, a_cover, a_nextClass, a_classOut)) : ∀ d k, k + d = 25 → ∀ lv : Nat → Int32, (∀ j, j < k → lv j = 1000) → wX_levelPairs_2 post (nI N) f_setCount f_largestCount f_coverCount f_current f_state f_inClass (d + 1) (nI k) (fr_E e) lv a_sets a_later a_largest a_pick a_union a_cover a_nextClass a_classOut := by
  have h5 := hV.2.1
  intro d
  induction d with
  | zero =>
    intro k hk lv h
    have hk' : k = 25 := by omega
    subst hk'
    exact br_t (by decide) ⟨25 + 1, fr_x_lp25 hV HP 25 0 rfl lv (fun s t hs ht => h _ (by omega))⟩
  | succ d ih =>
    intro k hk lv h
    refine br_f (nI_ge (b := 25) (by omega) (by decide)) ⟨vp_in_nI (by omega) (by decide), nm_r (e' := upd lv k 1000) (by rw [nI_clamp (by omega)]) (nm_r (nI_1 k) (ih (k + 1) (by omega) _ (fun j hj => ?_)))⟩
    by_cases hjk : j = k
    · rw [hjk]
      exact pk_us
    · rw [pk_un hjk]
      exact h j (by omega)
theorem fr_x_lp {post : SX → Prop} (hV : fr_V N e) (HP : ∀ lv, fr_LV N e 25 lv → post ((nI N), f_setCount, f_largestCount, f_coverCount, f_current, f_state, f_inClass, (fr_E e), lv, a_sets, a_later, a_largest, a_pick, a_union, a_cover, a_nextClass, a_classOut)) : wpX_levelPairs post ((nI N), f_setCount, f_largestCount, f_coverCount, f_current, f_state, f_inClass, (fr_E e), a_level, a_sets, a_later, a_largest, a_pick, a_union, a_cover, a_nextClass, a_classOut) :=
  Exists.intro (25 + 1) (fr_x_lp2 hV HP 25 0 rfl a_level (fun j h => absurd h (Nat.not_lt_zero j)))
theorem fr_x_ht2 {post : Int32 → Prop} {c : Nat} (hV : fr_V N e) (hc : c < 32) (hL : fr_LV N e 25 a_level) (h1 : fr_Gd N e c = true → post 1) (h0 : ¬ fr_Gd N e c = true → post 0) : ∀ d k, k + d = N * N → (∀ s t, s < N → t < N → N * s + t < k → c.testBit s = true → c.testBit t = true → fr_lvl e 25 s t = 1000) → wX_holdsTogether_2 post (nI c) (nI N) f_setCount f_largestCount f_coverCount f_current f_state f_inClass (fr_E e) a_level a_sets a_later a_largest a_pick a_union a_cover a_nextClass a_classOut (d + 1) (nI k) := by
  have h5 := hV.2.1
  have h25 := fr_sq h5
  intro d
  induction d with
  | zero =>
    intro k hk hI
    have hk' : k = N * N := by omega
    subst hk'
    exact br_t (by rw [pk_mul]; exact Int32.le_refl _) (h1 (fr_Gd_iff.mpr (fun s hs t ht => hI s t hs ht (fr_lin hs ht))))
  | succ d ih =>
    intro k hk hI
    obtain ⟨s, t, hs, ht, rfl⟩ := fr_split (N := N) (k := k) (by omega)
    have hn0 : ¬ nI N = 0 := nI_ne0 (by omega) (by omega)
    have hcl : (5 * nI s + nI t).toNatClampNeg = 5 * s + t := by rw [fr_ix5]; exact nI_clamp (by omega)
    have hin : vp_in (5 * nI s + nI t) 25 := by rw [fr_ix5]; exact vp_in_nI (by omega) (by omega)
    have hnext : (c.testBit s = true → c.testBit t = true → fr_lvl e 25 s t = 1000) → wX_holdsTogether_2 post (nI c) (nI N) f_setCount f_largestCount f_coverCount f_current f_state f_inClass (fr_E e) a_level a_sets a_later a_largest a_pick a_union a_cover a_nextClass a_classOut (d + 1) (nI (N * s + t + 1)) := by
      intro z
      refine ih _ (by omega) (fun s' t' hs' ht' hlt => ?_)
      by_cases hq : N * s' + t' = N * s + t
      · obtain ⟨h3, h4⟩ := fr_inj ht' ht hq
        rw [h3, h4]
        exact z
      · exact hI s' t' hs' ht' (by omega)
    refine br_f ?_ ⟨hn0, nm_r (fr_div h5 hs ht) ⟨hn0, nm_r (fr_rem h5 hs ht) ?_⟩⟩
    · rw [pk_mul]
      exact nI_ge (by omega) (by omega)
    refine fr_if (fr_bitT c hc s (by omega)) (fun b1 => fr_if (fr_bitT c hc t (by omega)) (fun b2 => ⟨hin, ?_⟩) (fun b2 => nm_r (nI_1 _) (hnext (fun _ z => absurd z b2)))) (fun b1 => nm_r (nI_1 _) (hnext (fun z => absurd z b1)))
    rw [hcl, hL s t hs ht]
    by_cases hz : fr_lvl e 25 s t = 1000
    · exact br_t (by rw [hz]; rfl) (nm_r (nI_1 _) (hnext (fun _ _ => hz)))
    · exact br_f (fun z => hz ((nI_eq (b := 1000) (fr_lvn (by decide)) (by decide)).mp z)) (h0 (fun z => hz (fr_Gd_iff.mp z s hs t ht b1 b2)))
theorem fr_x_ht {post : Int32 → Prop} {c : Nat} (hV : fr_V N e) (hc : c < 32) (hL : fr_LV N e 25 a_level) (h1 : fr_Gd N e c = true → post 1) (h0 : ¬ fr_Gd N e c = true → post 0) : wpX_holdsTogether post ((nI N), f_setCount, f_largestCount, f_coverCount, f_current, f_state, f_inClass, (fr_E e), a_level, a_sets, a_later, a_largest, a_pick, a_union, a_cover, a_nextClass, a_classOut) (nI c) :=
  Exists.intro (N * N + 1) (fr_x_ht2 hV hc hL h1 h0 (N * N) 0 (by omega) (fun s t _ _ h => absurd h (Nat.not_lt_zero _)))
theorem fr_x_im5 {post : Int32 → Prop} {c a : Nat} (hV : fr_V N e) (hc : c < 32) (ha : a < 2) (h : post (nI (fr_im N e c a))) : ∀ d s, s + d = N → wX_image_5 post (nI c) (nI a) (nI N) f_setCount f_largestCount f_coverCount f_current f_state f_inClass (fr_E e) a_level a_sets a_later a_largest a_pick a_union a_cover a_nextClass a_classOut (d + 1) (nI (fr_imr e c a s)) (nI s) := by
  have h5 := hV.2.1
  have h32 := fr_p32 h5
  intro d
  induction d with
  | zero =>
    intro s hs
    have hs' : s = N := by omega
    subst hs'
    exact br_t (Int32.le_refl _) h
  | succ d ih =>
    intro s hs
    have n1 := fr_nx_le hV s a
    have i1 := fr_imr32 hV c a s
    have ih2 := ih (s + 1) (by omega)
    refine br_f (nI_ge (by omega) (by omega)) (fr_x_next hV (by omega) ha ?_)
    refine fr_if (fr_bitT c hc s (by omega)) (fun b => fr_brM (by omega) (fun z => nm_r (nI_1 s) ?_) (fun z => nm_r (e' := nI (fr_imr e c a (s + 1))) ?_ (nm_r (nI_1 s) ih2))) (fun b => nm_r (nI_1 s) ?_)
    · rw [fr_imr_f (fun y => by have := y.2; omega)] at ih2
      exact ih2
    · rw [fr_pr z, fr_shT _ (by omega), fr_orT _ (by omega) _ (fr_p32' (by omega)), fr_imr_t b z]
    · rw [fr_imr_f (fun y => b y.1)] at ih2
      exact ih2
theorem fr_x_im {post : Int32 → Prop} {c a : Nat} (hV : fr_V N e) (hc : c < 32) (ha : a < 2) (h : post (nI (fr_im N e c a))) : wpX_image post ((nI N), f_setCount, f_largestCount, f_coverCount, f_current, f_state, f_inClass, (fr_E e), a_level, a_sets, a_later, a_largest, a_pick, a_union, a_cover, a_nextClass, a_classOut) (nI c) (nI a) :=
  Exists.intro (N + 1) (fr_x_im5 hV hc ha h N 0 (by omega))
theorem fr_x_fw2 {post : Int32 → Prop} {x k : Nat} {g : Nat → Nat} (hx : x < 32) (hk : k ≤ 5) (hg : ∀ i, i < k → a_cover i = nI (g i) ∧ g i < 32) (h1 : ∀ i, i < k → fr_sub x (g i) → post (nI i)) (h0 : (∀ i, i < k → ¬ fr_sub x (g i)) → post (-1)) : ∀ d i, i + d = k → (∀ j, j < i → ¬ fr_sub x (g j)) → wX_firstWith_2 post (nI x) (nI N) f_setCount f_largestCount (nI k) f_current f_state f_inClass (fr_E e) a_level a_sets a_later a_largest a_pick a_union a_cover a_nextClass a_classOut (d + 1) (nI i) := by
  intro d
  induction d with
  | zero =>
    intro i hi hI
    have hi' : i = k := by omega
    subst hi'
    exact br_t (Int32.le_refl _) (h0 hI)
  | succ d ih =>
    intro i hi hI
    obtain ⟨g1, g2⟩ := hg i (by omega)
    refine br_f (nI_ge (by omega) (by omega)) ⟨vp_in_nI (by omega) (by decide), ?_⟩
    rw [nI_clamp (by omega), g1]
    refine fr_if (fr_subX x hx (g i) g2) (fun z => h1 i (by omega) z) (fun z => nm_r (nI_1 i) (ih (i + 1) (by omega) (fun j hj => ?_)))
    by_cases hji : j = i
    · rw [hji]
      exact z
    · exact hI j (by omega)
theorem fr_x_fw {post : Int32 → Prop} {x k : Nat} {g : Nat → Nat} (hx : x < 32) (hk : k ≤ 5) (hg : ∀ i, i < k → a_cover i = nI (g i) ∧ g i < 32) (h1 : ∀ i, i < k → fr_sub x (g i) → post (nI i)) (h0 : (∀ i, i < k → ¬ fr_sub x (g i)) → post (-1)) : wpX_firstWith post ((nI N), f_setCount, f_largestCount, (nI k), f_current, f_state, f_inClass, (fr_E e), a_level, a_sets, a_later, a_largest, a_pick, a_union, a_cover, a_nextClass, a_classOut) (nI x) :=
  Exists.intro (k + 1) (fr_x_fw2 hx hk hg h1 h0 k 0 (by omega) (fun j h => absurd h (Nat.not_lt_zero j)))
theorem fr_x_so2 {post : Int32 → Prop} {c a : Nat} (hV : fr_V N e) (hc : c < 32) (ha : a < 2) (hG : fr_Gd N e c = true) (h : ∀ r, (∀ s, s < N → c.testBit s = true → 0 < fr_ou e s a → r = nI (fr_ou e s a) - 1) → post r) : ∀ d s, s + d = N → (∀ t, t < s → c.testBit t = true → fr_ou e t a = 0) → wX_sharedOutput_2 post (nI c) (nI a) (nI N) f_setCount f_largestCount f_coverCount f_current f_state f_inClass (fr_E e) a_level a_sets a_later a_largest a_pick a_union a_cover a_nextClass a_classOut (d + 1) (nI s) := by
  have h5 := hV.2.1
  intro d
  induction d with
  | zero =>
    intro s hs hI
    have hs' : s = N := by omega
    subst hs'
    refine br_t (Int32.le_refl _) (h _ (fun t ht b o => ?_))
    have := hI t ht b
    omega
  | succ d ih =>
    intro s hs hI
    have o3 := fr_ou_lt e s a
    refine br_f (nI_ge (by omega) (by omega)) (fr_if (fr_bitT c hc s (by omega)) (fun b => fr_x_output hV (by omega) ha (fr_brM (by omega) (fun z => nm_r (nI_1 s) (ih (s + 1) (by omega) (fun t ht bt => ?_))) (fun z => h _ (fun t ht bt o => ?_)))) (fun b => nm_r (nI_1 s) (ih (s + 1) (by omega) (fun t ht bt => ?_))))
    · by_cases hts : t = s
      · rw [hts]
        exact z
      · exact hI t (by omega) bt
    · rw [fr_Gd_sub hG (by omega) ht ha b bt z o]
    · by_cases hts : t = s
      · rw [hts] at bt
        exact absurd bt b
      · exact hI t (by omega) bt
theorem fr_x_so {post : Int32 → Prop} {c a : Nat} (hV : fr_V N e) (hc : c < 32) (ha : a < 2) (hG : fr_Gd N e c = true) (h : ∀ r, (∀ s, s < N → c.testBit s = true → 0 < fr_ou e s a → r = nI (fr_ou e s a) - 1) → post r) : wpX_sharedOutput post ((nI N), f_setCount, f_largestCount, f_coverCount, f_current, f_state, f_inClass, (fr_E e), a_level, a_sets, a_later, a_largest, a_pick, a_union, a_cover, a_nextClass, a_classOut) (nI c) (nI a) :=
  Exists.intro (N + 1) (fr_x_so2 hV hc ha hG h N 0 (by omega) (fun t h => absurd h (Nat.not_lt_zero t)))
end
end
section
/-! the component: its lists of sets -/
def fr_lrd (f : Nat → Nat) (S : Nat) : Nat → Nat
  | 0 => 0
  | d + 1 => fr_lrd f S d ||| f (S - (d + 1))
def fr_lr (N : Nat) (e : Nat → Nat) (i : Nat) : Nat := fr_lrd (fr_f N e) (fr_S N e) (fr_S N e - i)
theorem fr_lr_top (N : Nat) (e : Nat → Nat) : fr_lr N e (fr_S N e) = 0 := by
  unfold fr_lr
  rw [Nat.sub_self]
  rfl
theorem fr_lr_s {N : Nat} {e : Nat → Nat} {k : Nat} (h : k < fr_S N e) : fr_lr N e k = fr_lr N e (k + 1) ||| fr_f N e k := by
  unfold fr_lr
  rw [show fr_S N e - k = fr_S N e - (k + 1) + 1 from by omega]
  show _ ||| fr_f N e (fr_S N e - (fr_S N e - (k + 1) + 1)) = _
  rw [show fr_S N e - (fr_S N e - (k + 1) + 1) = k from by omega]
theorem fr_lr_lt {N : Nat} {e : Nat → Nat} : ∀ d i, i + d = fr_S N e → fr_lr N e i < 2 ^ N := by
  intro d
  induction d with
  | zero =>
    intro i hi
    have hi' : i = fr_S N e := by omega
    rw [hi', fr_lr_top]
    exact Nat.two_pow_pos N
  | succ d ih =>
    intro i hi
    rw [fr_lr_s (by omega)]
    exact Nat.or_lt_two_pow (ih (i + 1) (by omega)) (fr_f_ok (by omega)).1
theorem fr_lr_bit {N : Nat} {e : Nat → Nat} {x : Nat} : ∀ d i j, i + d = j → j < fr_S N e → (fr_f N e j).testBit x = true → (fr_lr N e i).testBit x = true := by
  intro d
  induction d with
  | zero =>
    intro i j hi hj h
    have hi' : i = j := by omega
    subst hi'
    rw [fr_lr_s hj, Nat.testBit_or, h, Bool.or_true]
  | succ d ih =>
    intro i j hi hj h
    rw [fr_lr_s (by omega), Nat.testBit_or, ih (i + 1) j (by omega) hj h, Bool.true_or]
theorem fr_dec (k : Nat) : nI k + (-1) = nI k - 1 := (Int32.sub_eq_add_neg (nI k) 1).symm
section
variable {N : Nat} {e : Nat → Nat} {f_setCount f_largestCount f_coverCount f_current f_state f_inClass : Int32} {a_level a_sets a_later a_largest a_pick a_union a_cover a_nextClass a_classOut : Nat → Int32}
theorem fr_x_ls68 {post : SX → Prop} (hV : fr_V N e) (hse : ∀ i, i < fr_S N e → a_sets i = nI (fr_f N e i)) (HP : ∀ la, (∀ i, i ≤ fr_S N e → la i = nI (fr_lr N e i)) → post ((nI N), (nI (fr_S N e)), f_largestCount, f_coverCount, f_current, f_state, f_inClass, (fr_E e), a_level, a_sets, la, a_largest, a_pick, a_union, a_cover, a_nextClass, a_classOut)) : ∀ k, k ≤ fr_S N e → ∀ la : Nat → Int32, (∀ i, k ≤ i → i ≤ fr_S N e → la i = nI (fr_lr N e i)) → wX_listSets_68 post (nI N) (nI (fr_S N e)) f_largestCount f_coverCount f_current f_state f_inClass (k + 1) (nI k - 1) (fr_E e) a_level a_sets la a_largest a_pick a_union a_cover a_nextClass a_classOut := by
  have h5 := hV.2.1
  have h32 := fr_p32 h5
  have hS := fr_S31 e h5
  intro k
  induction k with
  | zero =>
    intro _ la h
    exact br_t (by decide) (HP la (fun i hi => h i (Nat.zero_le i) hi))
  | succ k ih =>
    intro hk la h
    rw [nI_pred]
    have l1 := fr_lr_lt (N := N) (e := e) (fr_S N e - (k + 1)) (k + 1) (by omega)
    have l2 := (fr_f_ok (N := N) (e := e) (i := k) (by omega)).1
    refine br_f (nI_pos (by omega)) ⟨?_, vp_in_nI (by omega) (by decide), vp_in_nI (by omega) (by decide), nm_r (e' := upd la k (nI (fr_lr N e k))) ?_ (nm_r (fr_dec k) (ih (by omega) _ (fun i hi hi2 => ?_)))⟩
    · rw [nI_1]
      exact vp_in_nI (by omega) (by decide)
    · rw [nI_1, nI_clamp (by omega), nI_clamp (by omega), h (k + 1) (by omega) hk, hse k (by omega), fr_orT _ (by omega) _ (by omega), ← fr_lr_s (k := k) (by omega)]
    · by_cases hik : i = k
      · rw [hik]
        exact pk_us
      · rw [pk_un hik]
        exact h i (by omega) hi2
theorem fr_x_ls7 {post : SX → Prop} (hV : fr_V N e) (hL : fr_LV N e 25 a_level) (HP : ∀ se la, (∀ i, i < fr_S N e → se i = nI (fr_f N e i)) → (∀ i, i ≤ fr_S N e → la i = nI (fr_lr N e i)) → post ((nI N), (nI (fr_S N e)), f_largestCount, f_coverCount, f_current, f_state, f_inClass, (fr_E e), a_level, se, la, a_largest, a_pick, a_union, a_cover, a_nextClass, a_classOut)) : ∀ d c, c + d = 2 ^ N → 1 ≤ c → ∀ se : Nat → Int32, (∀ i, i < fr_ps N e c → se i = nI (fr_enm (fr_Q N e) c i)) → wX_listSets_7 post (nI N) f_largestCount f_coverCount f_current f_state f_inClass (d + 1) (nI c) (nI (fr_ps N e c)) (fr_E e) a_level se a_later a_largest a_pick a_union a_cover a_nextClass a_classOut := by
  have h5 := hV.2.1
  have h32 := fr_p32 h5
  have hS := fr_S31 e h5
  intro d
  induction d with
  | zero =>
    intro c hc _ se h
    have hc' : c = 2 ^ N := by omega
    subst hc'
    have hps : fr_ps N e (2 ^ N) = fr_S N e := rfl
    rw [hps] at h ⊢
    refine br_t (by rw [fr_shT N (by omega)]; exact Int32.le_refl _) ⟨vp_in_nI (by omega) (by decide), nm_r (e' := upd a_later (fr_S N e) 0) (by rw [nI_clamp (by omega)]) (nm_e ⟨fr_S N e + 1, fr_x_ls68 hV h (fun la hla => HP se la h hla) (fr_S N e) (Nat.le_refl _) _ (fun i hi hi2 => ?_)⟩)⟩
    have hi' : i = fr_S N e := by omega
    rw [hi', pk_us, fr_lr_top]
    rfl
  | succ d ih =>
    intro c hc h1 se h
    have hpl := fr_ps_le (N := N) (e := e) h1
    refine br_f (by rw [fr_shT N (by omega)]; exact nI_ge (by omega) (by omega)) (fr_x_ht hV (by omega) hL (fun z => br_f fr_01 ⟨vp_in_nI (by omega) (by decide), ?_⟩) (fun z => br_t rfl (nm_r (nI_1 c) ?_)))
    · have hq : fr_Q N e c = true := fr_Q_iff.mpr ⟨by omega, z⟩
      have hp : fr_ps N e (c + 1) = fr_ps N e c + 1 := fr_cnt_t hq
      refine nm_r (e' := upd se (fr_ps N e c) (nI c)) (by rw [nI_clamp (by omega)]) (nm_r (nI_1 _) (nm_r (nI_1 c) ?_))
      rw [← hp]
      refine ih (c + 1) (by omega) (by omega) _ (fun i hi => ?_)
      have hu : fr_enm (fr_Q N e) (c + 1) i = if fr_Q N e c = true ∧ i = fr_ps N e c then c else fr_enm (fr_Q N e) c i := rfl
      by_cases hip : i = fr_ps N e c
      · rw [hu, if_pos ⟨hq, hip⟩, hip]
        exact pk_us
      · rw [hu, if_neg (fun y => hip y.2), pk_un hip]
        exact h i (by omega)
    · have hq : ¬ fr_Q N e c = true := fun y => z (fr_Q_iff.mp y).2
      have hp : fr_ps N e (c + 1) = fr_ps N e c := fr_cnt_f hq
      rw [← hp]
      refine ih (c + 1) (by omega) (by omega) _ (fun i hi => ?_)
      have hu : fr_enm (fr_Q N e) (c + 1) i = if fr_Q N e c = true ∧ i = fr_ps N e c then c else fr_enm (fr_Q N e) c i := rfl
      rw [hu, if_neg (fun y => hq y.1)]
      exact h i (by omega)
theorem fr_x_ls {post : SX → Prop} (hV : fr_V N e) (hL : fr_LV N e 25 a_level) (HP : ∀ se la, (∀ i, i < fr_S N e → se i = nI (fr_f N e i)) → (∀ i, i ≤ fr_S N e → la i = nI (fr_lr N e i)) → post ((nI N), (nI (fr_S N e)), f_largestCount, f_coverCount, f_current, f_state, f_inClass, (fr_E e), a_level, se, la, a_largest, a_pick, a_union, a_cover, a_nextClass, a_classOut)) : wpX_listSets post ((nI N), f_setCount, f_largestCount, f_coverCount, f_current, f_state, f_inClass, (fr_E e), a_level, a_sets, a_later, a_largest, a_pick, a_union, a_cover, a_nextClass, a_classOut) := by
  have h2 := Nat.two_pow_pos N
  have h := fr_x_ls7 (a_later := a_later) hV hL HP (2 ^ N - 1) 1 (by omega) (Nat.le_refl 1) a_sets (fun i hi => by rw [fr_ps1] at hi; exact absurd hi (Nat.not_lt_zero i))
  rw [fr_ps1] at h
  exact Exists.intro _ h
theorem fr_x_ll21 {post : SX → Prop} {J7 : Int32 → Int32 → (Nat → Int32) → (Nat → Int32) → (Nat → Int32) → (Nat → Int32) → (Nat → Int32) → (Nat → Int32) → (Nat → Int32) → (Nat → Int32) → (Nat → Int32) → (Nat → Int32) →  Prop} {i m : Nat} (hV : fr_V N e) (hi : i < fr_S N e) (hm : m ≤ i) (hse : ∀ i, i < fr_S N e → a_sets i = nI (fr_f N e i)) (H0 : ¬ fr_mx N e i = true → J7 (nI (i + 1)) (nI m) (fr_E e) a_level a_sets a_later a_largest a_pick a_union a_cover a_nextClass a_classOut) (H1 : fr_mx N e i = true → J7 (nI (i + 1)) (nI (m + 1)) (fr_E e) a_level a_sets a_later (upd a_largest m (nI (fr_f N e i))) a_pick a_union a_cover a_nextClass a_classOut) : ∀ d k, k + d = fr_S N e → i < k → ((∀ j, j < k → i < j → ¬ fr_sub (fr_f N e i) (fr_f N e j)) → wX_listLargest_21 post J7 (nI i) (nI N) (nI (fr_S N e)) (nI m) f_coverCount f_current f_state f_inClass (fr_E e) a_level a_sets a_later a_largest a_pick a_union a_cover a_nextClass a_classOut (d + 1) 1 (nI k)) ∧ (¬ fr_mx N e i = true → wX_listLargest_21 post J7 (nI i) (nI N) (nI (fr_S N e)) (nI m) f_coverCount f_current f_state f_inClass (fr_E e) a_level a_sets a_later a_largest a_pick a_union a_cover a_nextClass a_classOut (d + 1) 0 (nI k)) := by
  have h5 := hV.2.1
  have hS := fr_S31 e h5
  have h32 := fr_p32 h5
  intro d
  induction d with
  | zero =>
    intro k hk hik
    have hk' : k = fr_S N e := by omega
    subst hk'
    constructor
    · intro h
      refine br_t (Int32.le_refl _) (br_f fr_01 ⟨vp_in_nI (by omega) (by decide), vp_in_nI (by omega) (by decide), nm_r (e' := upd a_largest m (nI (fr_f N e i))) ?_ (nm_r (nI_1 m) (nm_r (nI_1 i) (H1 (fr_mx_iff.mpr h))))⟩)
      rw [nI_clamp (by omega), nI_clamp (by omega), hse i hi]
    · intro h
      exact br_t (Int32.le_refl _) (br_t rfl (nm_r (nI_1 i) (H0 h)))
  | succ d ih =>
    intro k hk hik
    obtain ⟨ih1, ih0⟩ := ih (k + 1) (by omega) (by omega)
    have f1 := (fr_f_ok (N := N) (e := e) hi).1
    have f2 := (fr_f_ok (N := N) (e := e) (i := k) (by omega)).1
    constructor
    · intro h
      refine br_f (nI_ge (by omega) (by omega)) (br_f fr_01 ⟨vp_in_nI (by omega) (by decide), vp_in_nI (by omega) (by decide), ?_⟩)
      rw [nI_clamp (by omega), nI_clamp (by omega), hse i hi, hse k (by omega)]
      refine fr_if (fr_subX _ (by omega) _ (by omega)) (fun z => nm_r (nI_1 k) (ih0 (fun y => ?_))) (fun z => nm_r (nI_1 k) (ih1 (fun j hj hij => ?_)))
      · exact fr_mx_iff.mp y k (by omega) hik z
      · by_cases hjk : j = k
        · rw [hjk]
          exact z
        · exact h j (by omega) hij
    · intro h
      exact br_f (nI_ge (by omega) (by omega)) (br_t rfl (nm_r (nI_1 k) (ih0 h)))
theorem fr_x_ll7 {post : SX → Prop} (hV : fr_V N e) (hse : ∀ i, i < fr_S N e → a_sets i = nI (fr_f N e i)) (HP : ∀ lg, (∀ j, j < fr_cnt (fr_mx N e) (fr_S N e) → lg j = nI (fr_f N e (fr_enm (fr_mx N e) (fr_S N e) j))) → post ((nI N), (nI (fr_S N e)), (nI (fr_cnt (fr_mx N e) (fr_S N e))), f_coverCount, f_current, f_state, f_inClass, (fr_E e), a_level, a_sets, a_later, lg, a_pick, a_union, a_cover, a_nextClass, a_classOut)) : ∀ d i, i + d = fr_S N e → ∀ lg : Nat → Int32, (∀ j, j < fr_cnt (fr_mx N e) i → lg j = nI (fr_f N e (fr_enm (fr_mx N e) i j))) → wX_listLargest_7 post (nI N) (nI (fr_S N e)) f_coverCount f_current f_state f_inClass (d + 1) (nI i) (nI (fr_cnt (fr_mx N e) i)) (fr_E e) a_level a_sets a_later lg a_pick a_union a_cover a_nextClass a_classOut := by
  have h5 := hV.2.1
  have hS := fr_S31 e h5
  intro d
  induction d with
  | zero =>
    intro i hi lg h
    have hi' : i = fr_S N e := by omega
    subst hi'
    exact br_t (Int32.le_refl _) (HP lg h)
  | succ d ih =>
    intro i hi lg h
    refine br_f (nI_ge (by omega) (by omega)) (nm_r (nI_1 i) ⟨_, (fr_x_ll21 hV (by omega) (fr_cnt_le _ i) hse (fun z => ?_) (fun z => ?_) (fr_S N e - (i + 1)) (i + 1) (by omega) (by omega)).1 (fun j hj hij => by omega)⟩)
    · have hp : fr_cnt (fr_mx N e) (i + 1) = fr_cnt (fr_mx N e) i := fr_cnt_f z
      rw [← hp]
      refine ih (i + 1) (by omega) lg (fun j hj => ?_)
      have hu : fr_enm (fr_mx N e) (i + 1) j = if fr_mx N e i = true ∧ j = fr_cnt (fr_mx N e) i then i else fr_enm (fr_mx N e) i j := rfl
      rw [hu, if_neg (fun y => z y.1)]
      exact h j (by omega)
    · have hp : fr_cnt (fr_mx N e) (i + 1) = fr_cnt (fr_mx N e) i + 1 := fr_cnt_t z
      rw [← hp]
      refine ih (i + 1) (by omega) _ (fun j hj => ?_)
      have hu : fr_enm (fr_mx N e) (i + 1) j = if fr_mx N e i = true ∧ j = fr_cnt (fr_mx N e) i then i else fr_enm (fr_mx N e) i j := rfl
      by_cases hjc : j = fr_cnt (fr_mx N e) i
      · rw [hu, if_pos ⟨z, hjc⟩, hjc]
        exact pk_us
      · rw [hu, if_neg (fun y => hjc y.2), pk_un hjc]
        exact h j (by omega)
theorem fr_x_ll {post : SX → Prop} (hV : fr_V N e) (hse : ∀ i, i < fr_S N e → a_sets i = nI (fr_f N e i)) (HP : ∀ lg, (∀ j, j < fr_cnt (fr_mx N e) (fr_S N e) → lg j = nI (fr_f N e (fr_enm (fr_mx N e) (fr_S N e) j))) → post ((nI N), (nI (fr_S N e)), (nI (fr_cnt (fr_mx N e) (fr_S N e))), f_coverCount, f_current, f_state, f_inClass, (fr_E e), a_level, a_sets, a_later, lg, a_pick, a_union, a_cover, a_nextClass, a_classOut)) : wpX_listLargest post ((nI N), (nI (fr_S N e)), f_largestCount, f_coverCount, f_current, f_state, f_inClass, (fr_E e), a_level, a_sets, a_later, a_largest, a_pick, a_union, a_cover, a_nextClass, a_classOut) :=
  Exists.intro _ (fr_x_ll7 hV hse HP (fr_S N e) 0 (by omega) a_largest (fun j h => absurd h (Nat.not_lt_zero j)))
end
end
section
/-! the component: its search for a cover -/
theorem fr_cmp {a S k d : Nat} (ha : a < 100) (hS : S < 100) (hk : k < 100) (hd : d < 100) : nI a ≤ (nI S - nI k) + nI d ↔ a + k ≤ S + d := by
  have h1 : (nI S - nI k).toInt = (S : Int) - k := pk_sub_toInt (by omega) (by omega)
  have h2 : ((nI S - nI k) + nI d).toInt = (S : Int) - k + d := by
    rw [Int32.toInt_add, h1, nI_toInt (by omega)]
    exact Int.bmod_eq_of_le (by omega) (by omega)
  rw [Int32.le_iff_toInt_le, h2, nI_toInt (by omega)]
  omega
def fr_IV (N : Nat) (e : Nat → Nat) (k d : Nat) (p : Nat → Nat) (pi un : Nat → Int32) : Prop :=
  d < k ∧ p d ≤ fr_S N e ∧ (∀ i, i < d → p i < p (i + 1)) ∧ (∀ i, i < d → p i + k ≤ fr_S N e + i) ∧ (∀ i, i < d → pi i = nI (p i)) ∧ pi d = nI (p d) - 1 ∧ (∀ i, i < d → un i = nI (fr_or (fr_g N e p) (i + 1))) ∧ fr_hd N e k (d + 1) p
theorem fr_or_u {N : Nat} {e : Nat → Nat} {p : Nat → Nat} {d v i : Nat} (h : i ≤ d) : fr_or (fr_g N e (fr_u p d v)) i = fr_or (fr_g N e p) i :=
  fr_or_c i (fun j hj => by show fr_f N e (fr_u p d v j) = fr_f N e (p j); rw [fr_un (by omega)])
theorem fr_IV_pop {N : Nat} {e : Nat → Nat} {k d : Nat} {p : Nat → Nat} {pi pi' un : Nat → Int32} (h : fr_IV N e k (d + 1) p pi un) (ht : fr_S N e + (d + 1) < p (d + 1) + k) (hp : ∀ i, i < d + 1 → pi' i = pi i) : fr_IV N e k d (fr_u p d (p d + 1)) pi' un := by
  obtain ⟨a1, a2, a3, a4, a5, a6, a7, a8⟩ := h
  have b4 := a4 d (by omega)
  refine ⟨by omega, ?_, fun i hi => ?_, fun i hi => ?_, fun i hi => ?_, ?_, fun i hi => ?_, fr_hd_pop a1 a8 ht⟩
  · rw [fr_us]
    omega
  · have := a3 i (by omega)
    by_cases hid : i + 1 = d
    · rw [hid, fr_us, fr_un (by omega), ← hid]
      omega
    · rw [fr_un (by omega), fr_un hid]
      exact this
  · rw [fr_un (by omega)]
    exact a4 i (by omega)
  · rw [fr_un (by omega), hp i (by omega)]
    exact a5 i (by omega)
  · rw [fr_us, nI_pred, hp d (by omega)]
    exact a5 d (by omega)
  · rw [fr_or_u (by omega)]
    exact a7 i (by omega)
theorem fr_IV_next {N : Nat} {e : Nat → Nat} {k d : Nat} {p : Nat → Nat} {pi pi' un un' : Nat → Int32} (h : fr_IV N e k d p pi un) (ht : p d + k ≤ fr_S N e + d) (hp : ∀ i, i < d + 1 → pi' i = nI (p i)) (hu : ∀ i, i < d → un' i = un i) (hn : ∀ q, fr_ic (fr_S N e) k q → fr_CV N e k (fr_g N e q) → (∀ j, j < d + 1 → q j = p j) → False) : fr_IV N e k d (fr_u p d (p d + 1)) pi' un' := by
  obtain ⟨a1, a2, a3, a4, a5, a6, a7, a8⟩ := h
  refine ⟨by omega, ?_, fun i hi => ?_, fun i hi => ?_, fun i hi => ?_, ?_, fun i hi => ?_, fr_hd_next a8 hn⟩
  · rw [fr_us]
    omega
  · have := a3 i (by omega)
    by_cases hid : i + 1 = d
    · rw [hid, fr_us, fr_un (by omega), ← hid]
      omega
    · rw [fr_un (by omega), fr_un hid]
      exact this
  · rw [fr_un (by omega)]
    exact a4 i (by omega)
  · rw [fr_un (by omega)]
    exact hp i (by omega)
  · rw [fr_us, nI_pred]
    exact hp d (by omega)
  · rw [fr_or_u (by omega), hu i hi]
    exact a7 i (by omega)
theorem fr_IV_push {N : Nat} {e : Nat → Nat} {k d : Nat} {p : Nat → Nat} {pi pi' un un' : Nat → Int32} (h : fr_IV N e k d p pi un) (hd : d + 1 < k) (ht : p d + k ≤ fr_S N e + d) (hp : ∀ i, i < d + 1 → pi' i = nI (p i)) (hp2 : pi' (d + 1) = nI (p d)) (hu : ∀ i, i < d → un' i = un i) (hu2 : un' d = nI (fr_or (fr_g N e p) (d + 1))) : fr_IV N e k (d + 1) (fr_u p (d + 1) (p d + 1)) pi' un' := by
  obtain ⟨a1, a2, a3, a4, a5, a6, a7, a8⟩ := h
  refine ⟨hd, ?_, fun i hi => ?_, fun i hi => ?_, fun i hi => ?_, ?_, fun i hi => ?_, fr_hd_push hd a8⟩
  · rw [fr_us]
    omega
  · by_cases hid : i = d
    · rw [hid, fr_us, fr_un (by omega)]
      omega
    · rw [fr_un (by omega), fr_un (by omega)]
      exact a3 i (by omega)
  · rw [fr_un (by omega)]
    by_cases hid : i = d
    · rw [hid]
      exact ht
    · exact a4 i (by omega)
  · rw [fr_un (by omega)]
    exact hp i hi
  · rw [fr_us, nI_pred]
    exact hp2
  · rw [fr_or_u (by omega)]
    by_cases hid : i = d
    · rw [hid]
      exact hu2
    · rw [hu i (by omega)]
      exact a7 i (by omega)
theorem fr_full_of {N a : Nat} (ha : a < 2 ^ N) (h : ∀ x, x < N → a.testBit x = true) : a = 2 ^ N - 1 := by
  apply Nat.eq_of_testBit_eq
  intro x
  rw [Nat.testBit_two_pow_sub_one]
  by_cases hx : x < N
  · rw [h x hx, decide_eq_true hx]
  · rw [decide_eq_false hx]
    exact Nat.testBit_lt_two_pow (Nat.lt_of_lt_of_le ha (Nat.pow_le_pow_right (by decide) (by omega)))
theorem fr_full_bit {N x : Nat} (h : x < N) : (2 ^ N - 1).testBit x = true := by
  rw [Nat.testBit_two_pow_sub_one]
  exact decide_eq_true h
theorem fr_ic_lt {S k : Nat} {q : Nat → Nat} (h : fr_ic S k q) : ∀ d i, i + d + 1 < k → q i < q (i + d + 1) := by
  intro d
  induction d with
  | zero => intro i hi; exact h.1 i hi
  | succ d ih =>
    intro i hi
    have h1 := ih i (by omega)
    have h2 := h.1 (i + d + 1) (by omega)
    have h3 : i + (d + 1) + 1 = i + d + 1 + 1 := by omega
    rw [h3]
    omega
theorem fr_prune {N : Nat} {e : Nat → Nat} {k d : Nat} {p : Nat → Nat} (hd : d + 1 < k) (hpS : ∀ i, i < d + 1 → p i < fr_S N e) (hne : ¬ (fr_or (fr_g N e p) (d + 1) ||| fr_lr N e (p d + 1)) = 2 ^ N - 1) : ∀ q, fr_ic (fr_S N e) k q → fr_CV N e k (fr_g N e q) → (∀ j, j < d + 1 → q j = p j) → False := by
  intro q hq hc hj
  apply hne
  have hpd := hpS d (by omega)
  refine fr_full_of (Nat.or_lt_two_pow (fr_or_lt (d + 1) (fun i hi => (fr_f_ok (hpS i hi)).1)) (fr_lr_lt (fr_S N e - (p d + 1)) (p d + 1) (by omega))) (fun x hx => ?_)
  have h1 := fr_full_bit hx
  rw [← hc.2.1] at h1
  obtain ⟨i, hi, h2⟩ := (fr_or_bit k).mp h1
  have h3 : (fr_f N e (q i)).testBit x = true := h2
  rw [Nat.testBit_or, Bool.or_eq_true]
  by_cases hid : i < d + 1
  · left
    refine (fr_or_bit (d + 1)).mpr ⟨i, hid, ?_⟩
    show (fr_f N e (p i)).testBit x = true
    rw [← hj i hid]
    exact h3
  · right
    have h4 := fr_ic_lt hq (i - d - 1) d (by omega)
    rw [show d + (i - d - 1) + 1 = i from by omega, hj d (by omega)] at h4
    exact fr_lr_bit (q i - (p d + 1)) (p d + 1) (q i) (by omega) (hq.2 i hi) h3
section
variable {N : Nat} {e : Nat → Nat} {f_setCount f_largestCount f_coverCount f_current f_state f_inClass : Int32} {a_level a_sets a_later a_largest a_pick a_union a_cover a_nextClass a_classOut : Nat → Int32}
theorem fr_x_ic37 {post : Int32 → SX → Prop} {k : Nat} {g : Nat → Nat} (hV : fr_V N e) (hk : k ≤ 5) (hg : ∀ i, i < k → a_cover i = nI (g i) ∧ g i < 32) (h1 : fr_cl N e k g → post 1 ((nI N), f_setCount, f_largestCount, (nI k), f_current, f_state, f_inClass, (fr_E e), a_level, a_sets, a_later, a_largest, a_pick, a_union, a_cover, a_nextClass, a_classOut)) (h0 : ¬ fr_cl N e k g → post 0 ((nI N), f_setCount, f_largestCount, (nI k), f_current, f_state, f_inClass, (fr_E e), a_level, a_sets, a_later, a_largest, a_pick, a_union, a_cover, a_nextClass, a_classOut)) : ∀ d j, j + d = 2 * k → (∀ i a, a < 2 → 2 * i + a < j → ∃ l, l < k ∧ fr_sub (fr_im N e (g i) a) (g l)) → wX_isClosed_37 post (nI k) (nI N) f_setCount f_largestCount (nI k) f_current f_state f_inClass (fr_E e) a_level a_sets a_later a_largest a_pick a_union a_cover a_nextClass a_classOut (d + 1) (nI j) := by
  intro d
  induction d with
  | zero =>
    intro j hj hI
    have hj' : j = 2 * k := by omega
    subst hj'
    exact br_t (by rw [fr_t2]; exact Int32.le_refl _) (h1 (fun i hi a ha => hI i a ha (by omega)))
  | succ d ih =>
    intro j hj hI
    obtain ⟨g1, g2⟩ := hg (j / 2) (by omega)
    refine br_f (by rw [fr_t2]; exact nI_ge (by omega) (by omega)) ?_
    rw [fr_half j (by omega), fr_par j (by omega), nI_clamp (by omega), g1]
    refine ⟨vp_in_nI (by omega) (by decide), fr_x_im hV g2 (by omega) (fr_x_fw (fr_im32 hV _ _) hk hg (fun l hl hs => br_f (fr_ne1 (by omega)) (nm_r (nI_1 j) (ih (j + 1) (by omega) (fun i a ha hia => ?_)))) (fun hn => br_t rfl (h0 (fun hc => ?_))))⟩
    · by_cases hij : 2 * i + a = j
      · have e1 : i = j / 2 := by omega
        have e2 : a = j % 2 := by omega
        rw [e1, e2]
        exact ⟨l, hl, hs⟩
      · exact hI i a ha (by omega)
    · obtain ⟨l, hl, hs⟩ := hc (j / 2) (by omega) (j % 2) (by omega)
      exact hn l hl hs
theorem fr_x_ic7 {post : Int32 → SX → Prop} {k : Nat} {p : Nat → Nat} (hV : fr_V N e) (hk : k ≤ 5) (hp : ∀ i, i < k → a_pick i = nI (p i)) (hpS : ∀ i, i < k → p i < fr_S N e) (hse : ∀ i, i < fr_S N e → a_sets i = nI (fr_f N e i)) (h1 : ∀ co, (∀ i, i < k → co i = nI (fr_f N e (p i))) → fr_cl N e k (fr_g N e p) → post 1 ((nI N), f_setCount, f_largestCount, (nI k), f_current, f_state, f_inClass, (fr_E e), a_level, a_sets, a_later, a_largest, a_pick, a_union, co, a_nextClass, a_classOut)) (h0 : ∀ co, ¬ fr_cl N e k (fr_g N e p) → post 0 ((nI N), f_setCount, f_largestCount, (nI k), f_current, f_state, f_inClass, (fr_E e), a_level, a_sets, a_later, a_largest, a_pick, a_union, co, a_nextClass, a_classOut)) : ∀ d i, i + d = k → ∀ co : Nat → Int32, (∀ j, j < i → co j = nI (fr_f N e (p j))) → wX_isClosed_7 post (nI k) (nI N) f_setCount f_largestCount (nI k) f_current f_state f_inClass (d + 1) (nI i) (fr_E e) a_level a_sets a_later a_largest a_pick a_union co a_nextClass a_classOut := by
  have h5 := hV.2.1
  have hS := fr_S31 e h5
  intro d
  induction d with
  | zero =>
    intro i hi co h
    have hi' : i = k := by omega
    subst hi'
    exact br_t (Int32.le_refl _) ⟨_, fr_x_ic37 (g := fr_g N e p) hV hk (fun j hj => ⟨h j hj, fr_f32 h5 (hpS j hj)⟩) (h1 co h) (h0 co) (2 * i) 0 (by omega) (fun j a _ hja => absurd hja (Nat.not_lt_zero _))⟩
  | succ d ih =>
    intro i hi co h
    have hpi := hpS i (by omega)
    refine br_f (nI_ge (by omega) (by omega)) ⟨vp_in_nI (by omega) (by decide), ?_⟩
    rw [nI_clamp (by omega), hp i (by omega), nI_clamp (by omega), hse (p i) hpi]
    refine ⟨vp_in_nI (by omega) (by decide), vp_in_nI (by omega) (by decide), nm_e (nm_r (nI_1 i) (ih (i + 1) (by omega) _ (fun j hj => ?_)))⟩
    by_cases hji : j = i
    · rw [hji]
      exact pk_us
    · rw [pk_un hji]
      exact h j (by omega)
theorem fr_x_ic {post : Int32 → SX → Prop} {k : Nat} {p : Nat → Nat} (hV : fr_V N e) (hk : k ≤ 5) (hp : ∀ i, i < k → a_pick i = nI (p i)) (hpS : ∀ i, i < k → p i < fr_S N e) (hse : ∀ i, i < fr_S N e → a_sets i = nI (fr_f N e i)) (h1 : ∀ co, (∀ i, i < k → co i = nI (fr_f N e (p i))) → fr_cl N e k (fr_g N e p) → post 1 ((nI N), f_setCount, f_largestCount, (nI k), f_current, f_state, f_inClass, (fr_E e), a_level, a_sets, a_later, a_largest, a_pick, a_union, co, a_nextClass, a_classOut)) (h0 : ∀ co, ¬ fr_cl N e k (fr_g N e p) → post 0 ((nI N), f_setCount, f_largestCount, (nI k), f_current, f_state, f_inClass, (fr_E e), a_level, a_sets, a_later, a_largest, a_pick, a_union, co, a_nextClass, a_classOut)) : wpX_isClosed post ((nI N), f_setCount, f_largestCount, f_coverCount, f_current, f_state, f_inClass, (fr_E e), a_level, a_sets, a_later, a_largest, a_pick, a_union, a_cover, a_nextClass, a_classOut) (nI k) :=
  Exists.intro (k + 1) (fr_x_ic7 hV hk hp hpS hse h1 h0 k 0 (by omega) a_cover (fun j h => absurd h (Nat.not_lt_zero j)))
theorem fr_x_fc80 {post : Int32 → SX → Prop} {J21 : Int32 → Int32 → Int32 → Int32 → Int32 → Int32 → Int32 → Int32 → Int32 → (Nat → Int32) → (Nat → Int32) → (Nat → Int32) → (Nat → Int32) → (Nat → Int32) → (Nat → Int32) → (Nat → Int32) → (Nat → Int32) → (Nat → Int32) → (Nat → Int32) →  Prop} {k d step : Nat} {p : Nat → Nat} {pi0 : Nat → Int32} (hV : fr_V N e) (hk : k ≤ N) (hse : ∀ i, i < fr_S N e → a_sets i = nI (fr_f N e i)) (hla : ∀ i, i ≤ fr_S N e → a_later i = nI (fr_lr N e i))
    (I : fr_IV N e k d p pi0 a_union) (ht : p d + k ≤ fr_S N e + d) (hp : ∀ i, i < d + 1 → a_pick i = nI (p i))
    (h1 : ∀ pi un co q, fr_fc N e k q → (∀ i, i < k → co i = nI (fr_f N e (q i))) → post 1 ((nI N), (nI (fr_S N e)), f_largestCount, (nI k), f_current, f_state, f_inClass, (fr_E e), a_level, a_sets, a_later, a_largest, pi, un, co, a_nextClass, a_classOut))
    (HJ : ∀ d' p' cc pi un co, fr_IV N e k d' p' pi un → fr_px (fr_S N e) k d' p' + 1 ≤ fr_px (fr_S N e) k d p → J21 (nI d') (nI (step + 1)) (nI N) (nI (fr_S N e)) f_largestCount cc f_current f_state f_inClass (fr_E e) a_level a_sets a_later a_largest pi un co a_nextClass a_classOut) :
    wX_findCover_80 post J21 (nI k) (nI (2 ^ N - 1)) (nI d) (nI step) (nI (fr_or (fr_g N e p) d)) (nI N) (nI (fr_S N e)) f_largestCount f_coverCount f_current f_state f_inClass (fr_E e) a_level a_sets a_later a_largest a_pick a_union a_cover a_nextClass a_classOut := by
  have h5 := hV.2.1
  have hS := fr_S31 e h5
  have h32 := fr_p32 h5
  have hI := I
  obtain ⟨a1, a2, a3, a4, a5, a6, a7, a8⟩ := I
  have hpS : ∀ i, i < d + 1 → p i < fr_S N e := by
    intro i hi
    by_cases hid : i = d
    · rw [hid]
      omega
    · have := a4 i (by omega)
      omega
  have hpd := hpS d (by omega)
  have hcl : (nI d).toNatClampNeg = d := nI_clamp (by omega)
  have hclp : (nI (p d)).toNatClampNeg = p d := nI_clamp (by omega)
  have hf := (fr_f_ok hpd).1
  have ho : fr_or (fr_g N e p) d < 2 ^ N := fr_or_lt d (fun i hi => (fr_f_ok (hpS i (by omega))).1)
  have ho1 : fr_or (fr_g N e p) (d + 1) = fr_or (fr_g N e p) d ||| fr_f N e (p d) := rfl
  have ho2 : fr_or (fr_g N e p) (d + 1) < 2 ^ N := fr_or_lt (d + 1) (fun i hi => (fr_f_ok (hpS i (by omega))).1)
  have hu : ∀ i, i < d → upd a_union d (nI (fr_or (fr_g N e p) (d + 1))) i = a_union i := fun i hi => pk_un (by omega)
  have hin : vp_in (nI d) 6 := vp_in_nI (by omega) (by decide)
  unfold wX_findCover_80
  rw [hcl, hp d (by omega), hclp, hse (p d) hpd, fr_orT _ (by omega) _ (by omega), ← ho1]
  refine ⟨hin, vp_in_nI (by omega) (by decide), hin, nm_e ?_⟩
  rw [pk_us]
  by_cases hdk : d + 1 = k
  · refine br_t (by rw [fr_pr (by omega), show k - 1 = d from by omega]) ⟨hin, ?_⟩
    have hic : fr_ic (fr_S N e) k p := ⟨fun i hi => a3 i (by omega), fun i hi => hpS i (by omega)⟩
    have hleaf : ¬ fr_CV N e k (fr_g N e p) → ∀ q, fr_ic (fr_S N e) k q → fr_CV N e k (fr_g N e q) → (∀ j, j < d + 1 → q j = p j) → False := fun hn q hq hc hj => hn (fr_CV_c (fun i hi => by show fr_f N e (q i) = fr_f N e (p i); rw [hj i (by omega)]) hc)
    have hG : ∀ i, i < k → fr_Gd N e (fr_g N e p i) = true := fun i hi => fr_f_Gd (hpS i (by omega))
    rw [hdk] at ho2 ⊢
    refine fr_if (nI_eq (by omega) (by omega)) (fun z => fr_x_ic hV (by omega) (fun i hi => hp i (by omega)) (fun i hi => hpS i (by omega)) hse (fun co hco hcl => br_f fr_01 (h1 _ _ co p ⟨hic, ⟨hG, z, hcl⟩, by have h8 := a8; rw [hdk] at h8; exact h8⟩ hco)) (fun co hn => br_t rfl (nm_r (nI_1 step) (HJ d _ _ _ _ _ (fr_IV_next hI ht hp (fun i hi => pk_un (by omega)) (hleaf (fun y => hn y.2.2))) (fr_px_next ht))))) (fun z => nm_r (nI_1 step) (HJ d _ _ _ _ _ (fr_IV_next hI ht hp (fun i hi => pk_un (by omega)) (hleaf (fun y => z y.2.1))) (fr_px_next ht)))
  · have l1 := fr_lr_lt (N := N) (e := e) (fr_S N e - (p d + 1)) (p d + 1) (by omega)
    rw [nI_1 (p d), nI_clamp (n := p d + 1) (by omega), hla (p d + 1) (by omega), fr_orT _ (by omega) _ (by omega)]
    refine br_f ?_ ⟨hin, hin, vp_in_nI (by omega) (by decide), fr_if (nI_eq (Nat.lt_of_lt_of_le (Nat.or_lt_two_pow ho2 l1) (by omega)) (by omega)) (fun z => nm_r (nI_1 d) ?_) (fun z => nm_r (nI_1 step) (HJ d _ _ _ _ _ (fr_IV_next hI ht hp hu (fr_prune (by omega) hpS z)) (fr_px_next ht)))⟩
    · rw [fr_pr (by omega), nI_eq (by omega) (by omega)]
      omega
    · rw [nI_pred, hcl, hp d (by omega), nI_clamp (by omega)]
      refine ⟨hin, vp_in_nI (by omega) (by decide), nm_e (nm_r (nI_1 step) (HJ (d + 1) _ _ _ _ _ (fr_IV_push hI (by omega) ht (fun i hi => ?_) pk_us hu pk_us) (fr_px_push (by omega) ht)))⟩
      rw [pk_un (by omega)]
      exact hp i hi
theorem fr_x_fc21 {post : Int32 → SX → Prop} {k : Nat} (hV : fr_V N e) (hk1 : 1 ≤ k) (hk : k ≤ N) (hse : ∀ i, i < fr_S N e → a_sets i = nI (fr_f N e i)) (hla : ∀ i, i ≤ fr_S N e → a_later i = nI (fr_lr N e i))
    (h1 : ∀ pi un co q, fr_fc N e k q → (∀ i, i < k → co i = nI (fr_f N e (q i))) → post 1 ((nI N), (nI (fr_S N e)), f_largestCount, (nI k), f_current, f_state, f_inClass, (fr_E e), a_level, a_sets, a_later, a_largest, pi, un, co, a_nextClass, a_classOut))
    (h0 : fr_no N e k → ∀ cc pi un co, post 0 ((nI N), (nI (fr_S N e)), f_largestCount, cc, f_current, f_state, f_inClass, (fr_E e), a_level, a_sets, a_later, a_largest, pi, un, co, a_nextClass, a_classOut)) :
    ∀ n d p step cc pi un co, fr_IV N e k d p pi un → fr_px (fr_S N e) k d p < n → step + fr_px (fr_S N e) k d p ≤ 500000 → wX_findCover_21 post (nI k) (nI (2 ^ N - 1)) n (nI d) (nI step) (nI N) (nI (fr_S N e)) f_largestCount cc f_current f_state f_inClass (fr_E e) a_level a_sets a_later a_largest pi un co a_nextClass a_classOut := by
  have h5 := hV.2.1
  have hS := fr_S31 e h5
  have h32 := fr_p32 h5
  intro n
  induction n with
  | zero => intro d p step cc pi un co _ hn; exact absurd hn (Nat.not_lt_zero _)
  | succ n ih =>
    intro d p step cc pi un co I hn hs
    have hpos := fr_px_pos (fr_S N e) k d p
    have hI := I
    obtain ⟨a1, a2, a3, a4, a5, a6, a7, a8⟩ := I
    have hcl : (nI d).toNatClampNeg = d := nI_clamp (by omega)
    have hin : vp_in (nI d) 6 := vp_in_nI (by omega) (by decide)
    have hup : upd pi (nI d).toNatClampNeg (pi (nI d).toNatClampNeg + 1) = upd pi d (nI (p d)) := by rw [hcl, a6, Int32.sub_add_cancel]
    have hpn : ∀ i, i < d + 1 → upd pi d (nI (p d)) i = nI (p i) := by
      intro i hi
      by_cases hid : i = d
      · rw [hid]
        exact pk_us
      · rw [pk_un hid]
        exact a5 i (by omega)
    refine br_f (nI_ge (b := 500000) (by omega) (by decide)) ⟨hin, hin, nm_r hup ⟨hin, ?_⟩⟩
    rw [hcl, pk_us]
    have HJ : ∀ d' p' cc pi un co, fr_IV N e k d' p' pi un → fr_px (fr_S N e) k d' p' + 1 ≤ fr_px (fr_S N e) k d p → wX_findCover_21 post (nI k) (nI (2 ^ N - 1)) n (nI d') (nI (step + 1)) (nI N) (nI (fr_S N e)) f_largestCount cc f_current f_state f_inClass (fr_E e) a_level a_sets a_later a_largest pi un co a_nextClass a_classOut := fun d' p' cc pi un co h z => ih d' p' (step + 1) cc pi un co h (by omega) (by omega)
    refine fr_if (fr_cmp (by omega) (by omega) (by omega) (by omega)) (fun ht => ?_) (fun ht => ?_)
    · cases d with
      | zero => exact br_t (by decide) (fr_x_fc80 (d := 0) hV hk hse hla hI ht hpn h1 HJ)
      | succ d =>
        refine br_f (nI_nle (by omega) (by omega)) ?_
        rw [nI_pred, nI_clamp (by omega), a7 d (by omega)]
        exact ⟨vp_in_nI (by omega) (by decide), fr_x_fc80 (d := d + 1) hV hk hse hla hI ht hpn h1 HJ⟩
    · cases d with
      | zero => exact nm_e (br_f (by decide) (h0 (fr_hd_pop0 hk1 a8 (by omega)) _ _ _ _))
      | succ d =>
        refine nm_r (pk_m1 d) (br_t (nI_pos' (by omega)) (nm_r (nI_1 step) (HJ d _ _ _ _ _ (fr_IV_pop hI (by omega) (fun i hi => pk_un (by omega))) fr_px_pop)))
theorem fr_x_fc {post : Int32 → SX → Prop} {k : Nat} (hV : fr_V N e) (hk1 : 1 ≤ k) (hk : k ≤ N) (hse : ∀ i, i < fr_S N e → a_sets i = nI (fr_f N e i)) (hla : ∀ i, i ≤ fr_S N e → a_later i = nI (fr_lr N e i))
    (h1 : ∀ pi un co q, fr_fc N e k q → (∀ i, i < k → co i = nI (fr_f N e (q i))) → post 1 ((nI N), (nI (fr_S N e)), f_largestCount, (nI k), f_current, f_state, f_inClass, (fr_E e), a_level, a_sets, a_later, a_largest, pi, un, co, a_nextClass, a_classOut))
    (h0 : fr_no N e k → ∀ cc pi un co, post 0 ((nI N), (nI (fr_S N e)), f_largestCount, cc, f_current, f_state, f_inClass, (fr_E e), a_level, a_sets, a_later, a_largest, pi, un, co, a_nextClass, a_classOut)) :
    wpX_findCover post ((nI N), (nI (fr_S N e)), f_largestCount, f_coverCount, f_current, f_state, f_inClass, (fr_E e), a_level, a_sets, a_later, a_largest, a_pick, a_union, a_cover, a_nextClass, a_classOut) (nI k) := by
  have h5 := hV.2.1
  have hS := fr_S31 e h5
  have hp0 := fr_px_0 (S := fr_S N e) (k := k) (p := fun _ => 0) hk1 (by omega) hS rfl
  refine nm_r (e' := nI (2 ^ N - 1)) (by rw [fr_shT N (by omega)]; exact fr_full N (by omega)) (nm_e (Exists.intro (fr_px (fr_S N e) k 0 (fun _ => 0) + 1) (fr_x_fc21 hV hk1 hk hse hla h1 h0 _ 0 (fun _ => 0) 0 _ _ _ _ ⟨hk1, Nat.zero_le _, fun i hi => absurd hi (Nat.not_lt_zero i), fun i hi => absurd hi (Nat.not_lt_zero i), fun i hi => absurd hi (Nat.not_lt_zero i), ?_, fun i hi => absurd hi (Nat.not_lt_zero i), fr_hd_0 rfl⟩ (Nat.lt_succ_self _) (by omega))))
  exact pk_us
end
end
section
/-! the component: its reduced machine and refresh -/
def fr_NC (N : Nat) (e : Nat → Nat) (k : Nat) (g : Nat → Nat) (m : Nat) (nc ct : Nat → Int32) : Prop := ∀ c a, a < 2 → 2 * c + a < m → (∃ d, d < k ∧ nc (2 * c + a) = nI d ∧ fr_sub (fr_im N e (g c) a) (g d)) ∧ (∀ s, s < N → (g c).testBit s = true → 0 < fr_ou e s a → ct (2 * c + a) = nI (fr_ou e s a) - 1)
theorem fr_sub1 {c : Nat} : fr_sub 1 c ↔ c.testBit 0 = true := by
  rw [fr_sub_iff]
  constructor
  · intro h
    exact h 0 rfl
  · intro h x hx
    have hx2 : (2 ^ 0).testBit x = true := hx
    rw [Nat.testBit_two_pow, decide_eq_true_iff] at hx2
    rw [← hx2]
    exact h
def fr_TB (N : Nat) (e : Nat → Nat) (s0 : Nat) (lc cc ic : Int32) (lv lg co nc ct : Nat → Int32) : Prop :=
  fr_LV N e 25 lv ∧ lc = nI (fr_cnt (fr_mx N e) (fr_S N e)) ∧ (∀ j, j < fr_cnt (fr_mx N e) (fr_S N e) → lg j = nI (fr_f N e (fr_enm (fr_mx N e) (fr_S N e) j))) ∧ ∃ k q, fr_FC N e k q ∧ cc = nI k ∧ (∀ i, i < k → co i = nI (fr_f N e (q i))) ∧ fr_NC N e k (fr_g N e q) (2 * k) nc ct ∧ (0 < s0 → ∃ c, c < k ∧ ic = nI c ∧ (fr_f N e (q c)).testBit (s0 - 1) = true)
section
variable {N : Nat} {e : Nat → Nat} {f_setCount f_largestCount f_coverCount f_current f_state f_inClass : Int32} {a_level a_sets a_later a_largest a_pick a_union a_cover a_nextClass a_classOut : Nat → Int32}
theorem fr_x_bc2 {post : SX → Prop} {k : Nat} {g : Nat → Nat} (hV : fr_V N e) (hk : k ≤ 5) (hg : ∀ i, i < k → a_cover i = nI (g i) ∧ g i < 32) (hG : ∀ i, i < k → fr_Gd N e (g i) = true) (hcl : fr_cl N e k g) (HP : ∀ nc ct, fr_NC N e k g (2 * k) nc ct → post ((nI N), f_setCount, f_largestCount, (nI k), f_current, f_state, f_inClass, (fr_E e), a_level, a_sets, a_later, a_largest, a_pick, a_union, a_cover, nc, ct)) : ∀ d j, j + d = 2 * k → ∀ nc ct, fr_NC N e k g j nc ct → wX_buildClasses_2 post (nI N) f_setCount f_largestCount (nI k) f_current f_state f_inClass (d + 1) (nI j) (fr_E e) a_level a_sets a_later a_largest a_pick a_union a_cover nc ct := by
  intro d
  induction d with
  | zero =>
    intro j hj nc ct h
    have hj' : j = 2 * k := by omega
    subst hj'
    exact br_t (by rw [fr_t2]; exact Int32.le_refl _) (HP nc ct h)
  | succ d ih =>
    intro j hj nc ct h
    obtain ⟨g1, g2⟩ := hg (j / 2) (by omega)
    refine br_f (by rw [fr_t2]; exact nI_ge (by omega) (by omega)) ?_
    rw [fr_half j (by omega), fr_par j (by omega), nI_clamp (n := j / 2) (by omega), g1, nI_clamp (n := j) (by omega)]
    refine ⟨vp_in_nI (by omega) (by decide), fr_x_im hV g2 (by omega) (fr_x_fw (fr_im32 hV _ _) hk hg (fun l hl hs => ⟨vp_in_nI (by omega) (by decide), nm_e ⟨vp_in_nI (by omega) (by decide), fr_x_so hV g2 (by omega) (hG _ (by omega)) (fun r hr => ⟨vp_in_nI (by omega) (by decide), nm_e (nm_r (nI_1 j) (ih (j + 1) (by omega) _ _ (fun c a ha hca => ?_)))⟩)⟩⟩) (fun hn => ?_))⟩
    · by_cases hcj : 2 * c + a = j
      · have e1 : c = j / 2 := by omega
        have e2 : a = j % 2 := by omega
        rw [hcj, e1, e2]
        refine ⟨⟨l, hl, pk_us, hs⟩, fun s hs2 hb ho => ?_⟩
        rw [pk_us]
        exact hr s hs2 hb ho
      · rw [pk_un hcj, pk_un hcj]
        exact h c a ha (by omega)
    · obtain ⟨l, hl, hs⟩ := hcl (j / 2) (by omega) (j % 2) (by omega)
      exact absurd hs (hn l hl)
theorem fr_x_rf52 {post : SX → Prop} {k : Nat} {q : Nat → Nat} (hV : fr_V N e) (hF : fr_FC N e k q) (hco : ∀ i, i < k → a_cover i = nI (fr_f N e (q i))) (HP : ∀ nc ct c, c < k → (fr_f N e (q c)).testBit 0 = true → fr_NC N e k (fr_g N e q) (2 * k) nc ct → post ((nI N), f_setCount, f_largestCount, (nI k), f_current, f_state, (nI c), (fr_E e), a_level, a_sets, a_later, a_largest, a_pick, a_union, a_cover, nc, ct)) : wX_refresh_52 post (nI N) f_setCount f_largestCount (nI k) f_current f_state f_inClass (fr_E e) a_level a_sets a_later a_largest a_pick a_union a_cover a_nextClass a_classOut := by
  have h5 := hV.2.1
  obtain ⟨a1, a2, a3, a4, a5, a6⟩ := hF
  have hg : ∀ i, i < k → a_cover i = nI (fr_g N e q i) ∧ fr_g N e q i < 32 := fun i hi => ⟨hco i hi, fr_f32 h5 (a4.2 i hi)⟩
  unfold wX_refresh_52
  refine Exists.intro _ (fr_x_bc2 (g := fr_g N e q) hV (by omega) hg a5.1 a5.2.2 (fun nc ct h => ?_) (2 * k) 0 (by omega) _ _ (fun c a _ hca => absurd hca (Nat.not_lt_zero _)))
  refine fr_x_fw (x := 1) (g := fr_g N e q) (by decide) (by omega) hg (fun i hi hs => HP nc ct i hi (fr_sub1.mp hs) h) (fun hn => ?_)
  have h1 : (2 ^ N - 1).testBit 0 = true := fr_full_bit (by have := hV.1; omega)
  rw [← a5.2.1] at h1
  obtain ⟨i, hi, h2⟩ := (fr_or_bit k).mp h1
  exact absurd (fr_sub1.mpr h2) (hn i hi)
theorem fr_x_rf27 {post : SX → Prop} (hV : fr_V N e) (hse : ∀ i, i < fr_S N e → a_sets i = nI (fr_f N e i)) (hla : ∀ i, i ≤ fr_S N e → a_later i = nI (fr_lr N e i))
    (HP : ∀ k q pi un co nc ct c, fr_FC N e k q → (∀ i, i < k → co i = nI (fr_f N e (q i))) → c < k → (fr_f N e (q c)).testBit 0 = true → fr_NC N e k (fr_g N e q) (2 * k) nc ct → post ((nI N), (nI (fr_S N e)), f_largestCount, (nI k), f_current, f_state, (nI c), (fr_E e), a_level, a_sets, a_later, a_largest, pi, un, co, nc, ct)) :
    ∀ d k, k + d = N + 1 → 1 ≤ k → (∀ k', 1 ≤ k' → k' < k → fr_no N e k') → ∀ cc pi un co, wX_refresh_27 post (d + 1) (nI k) (nI N) (nI (fr_S N e)) f_largestCount cc f_current f_state f_inClass (fr_E e) a_level a_sets a_later a_largest pi un co a_nextClass a_classOut := by
  have h5 := hV.2.1
  have h2 := hV.1
  intro d
  induction d with
  | zero =>
    intro k hk _ hno
    exact absurd (hno N (by omega) (by omega)) (fr_exN hV)
  | succ d ih =>
    intro k hk hk1 hno cc pi un co
    refine br_f (nI_nlt (by omega) (by omega)) (fr_x_fc hV hk1 (by omega) hse hla (fun pi un co q hq hco => br_f fr_01 ?_) (fun hn cc pi un co => br_t rfl (nm_r (nI_1 k) (ih (k + 1) (by omega) (by omega) (fun k' h1 h2 => ?_) _ _ _ _))))
    · have hF : fr_FC N e k q := ⟨hk1, by omega, hno, hq⟩
      exact fr_x_rf52 hV hF hco (fun nc ct c hc hb hn => HP k q pi un co nc ct c hF hco hc hb hn)
    · by_cases hkk : k' = k
      · rw [hkk]
        exact hn
      · exact hno k' h1 (by omega)
theorem fr_x_refresh {post : SX → Prop} {s0 : Nat} (hV : fr_V N e) (hI : (f_current = 0 ∧ s0 = 1) ∨ (f_current = 1 ∧ fr_TB N e s0 f_largestCount f_coverCount f_inClass a_level a_largest a_cover a_nextClass a_classOut))
    (HP : ∀ sc lc cc ic lv se la lg pi un co nc ct, fr_TB N e s0 lc cc ic lv lg co nc ct → post ((nI N), sc, lc, cc, 1, f_state, ic, (fr_E e), lv, se, la, lg, pi, un, co, nc, ct)) : wpX_refresh post ((nI N), f_setCount, f_largestCount, f_coverCount, f_current, f_state, f_inClass, (fr_E e), a_level, a_sets, a_later, a_largest, a_pick, a_union, a_cover, a_nextClass, a_classOut) := by
  rcases hI with ⟨h0, hs0⟩ | ⟨h1, hT⟩
  · refine br_t h0 (fr_x_lp hV (fun lv hL => fr_x_ls hV hL (fun se la hse hla => fr_x_ll hV hse (fun lg hlg => Exists.intro (N + 1) (fr_x_rf27 hV hse hla (fun k q pi un co nc ct c hF hco hc hb hn => HP _ _ _ _ _ _ _ _ _ _ _ _ _ ⟨hL, rfl, hlg, k, q, hF, rfl, hco, hn, fun _ => ⟨c, hc, rfl, ?_⟩⟩) N 1 (by omega) (Nat.le_refl 1) (fun k' a b => absurd b (by omega)) _ _ _ _)))))
    subst hs0
    exact hb
  · subst h1
    exact br_f fr_01 (HP _ _ _ _ _ _ _ _ _ _ _ _ _ hT)
end
end
section
/-! the reference: words, lengths, tables -/
def fr_sh (e : Nat → Nat) (s t : Nat) : Nat := if fr_lvl e 25 s t = 1000 then 0 else fr_lvl e 25 s t
def fr_bz (e : Nat → Nat) (s t : Nat) : Int32 := if fr_lvl e 25 s t = 1000 then 1 else 0
def fr_FT (N : Nat) (e : Nat → Nat) (k : Nat) (fi : Nat → Int32) : Prop := ∀ s t, s < N → t < N → N * s + t < k → fi (8 * s + t) = fr_bz e s t
theorem fr_sh_0 {e : Nat → Nat} {s t : Nat} : fr_sh e s t = 0 ↔ fr_lvl e 25 s t = 1000 := by
  unfold fr_sh
  have h := fr_lvl_pos (e := e) (s := s) (t := t) (B := 25) (by decide)
  by_cases hz : fr_lvl e 25 s t = 1000
  · rw [if_pos hz]
    exact ⟨fun _ => hz, fun _ => rfl⟩
  · rw [if_neg hz]
    exact ⟨fun z => by omega, fun z => absurd z hz⟩
theorem fr_sh_lt {e : Nat → Nat} {s t : Nat} : fr_sh e s t < 2 ^ 31 := by
  have h := fr_lvn (e := e) (s := s) (t := t) (B := 25) (by decide)
  unfold fr_sh
  by_cases hz : fr_lvl e 25 s t = 1000
  · rw [if_pos hz]
    decide
  · rw [if_neg hz]
    exact h
section
variable {N : Nat} {e : Nat → Nat} {f_at f_size : Int32} {a_fits a_chosen : Nat → Int32}
theorem fr_y_next {post : Int32 → Prop} {s a : Nat} (hV : fr_V N e) (hs : s < 5) (ha : a < 2) (h : post (nI (fr_nx e s a) - 1)) : wpY_next post ((nI N), f_at, f_size, (fr_E e), a_fits, a_chosen) (nI s) (nI a) := by
  unfold wpY_next
  dsimp only
  have h18 := fr_V18 hV (2 * s + a)
  rw [fr_ix2, nI_clamp (by omega)]
  refine ⟨vp_in_nI (by omega) (by omega), fr_30, ?_⟩
  rw [show fr_E e (2 * s + a) / 3 = nI (fr_nx e s a) from pk_div (d := 3) (by omega) (by decide) (by decide)]
  exact h
theorem fr_y_output {post : Int32 → Prop} {s a : Nat} (hV : fr_V N e) (hs : s < 5) (ha : a < 2) (h : post (nI (fr_ou e s a) - 1)) : wpY_output post ((nI N), f_at, f_size, (fr_E e), a_fits, a_chosen) (nI s) (nI a) := by
  unfold wpY_output
  dsimp only
  have h18 := fr_V18 hV (2 * s + a)
  rw [fr_ix2, nI_clamp (by omega)]
  refine ⟨vp_in_nI (by omega) (by omega), fr_30, ?_⟩
  rw [show fr_E e (2 * s + a) - fr_E e (2 * s + a) / 3 * 3 = nI (fr_ou e s a) from pk_rem (d := 3) (by omega) (by decide) (by decide)]
  exact h
theorem fr_y_sp11 {post : Int32 → Prop} {w : Nat} (hV : fr_V N e) (hw : w < 2 ^ 20) : ∀ k p q, k < 12 → p < N → q < N → (fr_sw e k w p q = true → post 1) → (¬ fr_sw e k w p q = true → post 0) → wY_splits_11 post (nI w) (nI N) f_at f_size (fr_E e) a_fits a_chosen (k + 1) (nI p) (nI q) (nI k) := by
  have h5 := hV.2.1
  intro k
  induction k with
  | zero =>
    intro p q _ hp hq h1 h0
    have ha : w % 2 < 2 := Nat.mod_lt _ (by decide)
    have hb : nI w &&& 1 = nI (w % 2) := fr_and1 (by omega)
    have o1 := fr_ou_lt e p (w % 2)
    have o2 := fr_ou_lt e q (w % 2)
    have hz : fr_sw e 0 w p q = true ↔ (0 < fr_ou e p (w % 2) ∧ 0 < fr_ou e q (w % 2) ∧ fr_ou e p (w % 2) ≠ fr_ou e q (w % 2)) := fr_sx_0
    rw [hz] at h1 h0
    refine br_t (by decide) ?_
    rw [hb]
    refine fr_y_output hV (by omega) ha (fr_y_output hV (by omega) ha ?_)
    exact fr_brM (by omega) (fun z => h0 (fun y => by have := y.1; omega)) (fun z1 => fr_brM (by omega) (fun z => h0 (fun y => by have := y.2.1; omega)) (fun z2 => fr_brE (by omega) (by omega) (fun z => h0 (fun y => y.2.2 z)) (fun z => h1 ⟨z1, z2, z⟩)))
  | succ k ih =>
    intro p q hk hp hq h1 h0
    have ha : w / 2 ^ (k + 1) % 2 < 2 := Nat.mod_lt _ (by decide)
    have hz : fr_sw e (k + 1) w p q = true ↔ (0 < fr_nx e p (w / 2 ^ (k + 1) % 2) ∧ 0 < fr_nx e q (w / 2 ^ (k + 1) % 2) ∧ fr_sw e k w (fr_nx e p (w / 2 ^ (k + 1) % 2) - 1) (fr_nx e q (w / 2 ^ (k + 1) % 2) - 1) = true) := fr_stp_iff
    have hb := fr_bitw (w := w) (k := k + 1) (by omega) (by omega)
    generalize w / 2 ^ (k + 1) % 2 = a at ha hz hb
    have n1 := fr_nx_le hV p a
    have n2 := fr_nx_le hV q a
    rw [hz] at h1 h0
    refine br_f (nI_nle (by omega) (by omega)) (nm_r hb (fr_y_next hV (by omega) ha (fr_y_next hV (by omega) ha ?_)))
    refine fr_brM (by omega) (fun z => h0 (fun y => by have := y.1; omega)) (fun z1 => fr_brM (by omega) (fun z => h0 (fun y => by have := y.2.1; omega)) (fun z2 => nm_r (pk_m1 k) ?_))
    rw [fr_pr z1, fr_pr z2]
    exact ih _ _ (by omega) (by omega) (by omega) (fun z => h1 ⟨z1, z2, z⟩) (fun z => h0 (fun y => z y.2.2))
theorem fr_y_splits {post : Int32 → Prop} {s t L w : Nat} (hV : fr_V N e) (hw : w < 2 ^ 20) (hL : L < 12) (hs : s < N) (ht : t < N) (h1 : fr_sw e L w s t = true → post 1) (h0 : ¬ fr_sw e L w s t = true → post 0) : wpY_splits post ((nI N), f_at, f_size, (fr_E e), a_fits, a_chosen) (nI s) (nI t) (nI (L + 1)) (nI w) :=
  nm_r (nI_pred L) (Exists.intro (L + 1) (fr_y_sp11 hV hw L s t hL hs ht h1 h0))
theorem fr_y_spl3 {post : Int32 → Prop} {s t L : Nat} (hV : fr_V N e) (hs : s < N) (ht : t < N) (hL : L < 10) (h1 : fr_ex e L s t = true → post (nI (fr_lw e L s t))) (h0 : ¬ fr_ex e L s t = true → post (-1)) : ∀ d w, w + d = 2 ^ (L + 1) → (∀ v, v < w → fr_sw e L v s t = false) → wY_splitter_3 post (nI s) (nI t) (nI (L + 1)) (nI N) f_at f_size (fr_E e) a_fits a_chosen (d + 1) (nI w) := by
  have hp : 2 ^ (L + 1) ≤ 2 ^ 10 := Nat.pow_le_pow_right (by decide) (by omega)
  have hsh := fr_shT (L + 1) (by omega)
  have hno : (∀ v, v < 2 ^ (L + 1) → fr_sw e L v s t = false) → fr_ex e L s t = false := fr_lw_none
  generalize 2 ^ (L + 1) = M at hp hsh hno
  intro d
  induction d with
  | zero =>
    intro w hw hI
    have hw' : w = M := by omega
    subst hw'
    exact br_t (by rw [hsh]; exact Int32.le_refl _) (h0 (by rw [hno hI]; decide))
  | succ d ih =>
    intro w hw hI
    refine br_f (by rw [hsh]; exact nI_ge (by omega) (by omega)) (fr_y_splits hV (by omega) (by omega) hs ht (fun z => br_f fr_01 ?_) (fun z => br_t rfl (nm_r (nI_1 w) (ih (w + 1) (by omega) (fun v hv => ?_)))))
    · obtain ⟨hx, heq⟩ := fr_lw_eq z hI
      rw [heq] at h1
      exact h1 hx
    · by_cases hvw : v = w
      · rw [hvw]
        exact fr_bf z
      · exact hI v (by omega)
theorem fr_y_spl {post : Int32 → Prop} {s t L : Nat} (hV : fr_V N e) (hs : s < N) (ht : t < N) (hL : L < 10) (h1 : fr_ex e L s t = true → post (nI (fr_lw e L s t))) (h0 : ¬ fr_ex e L s t = true → post (-1)) : wpY_splitter post ((nI N), f_at, f_size, (fr_E e), a_fits, a_chosen) (nI s) (nI t) (nI (L + 1)) :=
  Exists.intro (2 ^ (L + 1) + 1) (fr_y_spl3 hV hs ht hL h1 h0 (2 ^ (L + 1)) 0 (Nat.zero_add _) (fun v h => absurd h (Nat.not_lt_zero v)))
theorem fr_y_sh17 {post : Int32 → Prop} {s t : Nat} (hV : fr_V N e) (hs : s < N) (ht : t < N) (h : post (nI (fr_sh e s t))) : ∀ d l, l + d = N * (N - 1) / 2 → (∀ m, m < l → fr_ex e m s t = false) → wY_shortest_17 post (nI s) (nI t) (nI (N * (N - 1) / 2)) (nI N) f_at f_size (fr_E e) a_fits a_chosen (d + 1) (nI (l + 1)) := by
  have h5 := hV.2.1
  have hP := fr_pairs_le N (by omega)
  have hfar : (∀ l, l < N * (N - 1) / 2 → fr_ex e l s t = false) → fr_lvl e 25 s t = 1000 := fr_far hV hs ht
  generalize N * (N - 1) / 2 = P at hP hfar
  intro d
  induction d with
  | zero =>
    intro l hl hI
    have hl' : l = P := by omega
    subst hl'
    have h2 := fr_sh_0.mpr (hfar hI)
    rw [h2] at h
    exact br_t (nI_lt (by omega) (by omega)) h
  | succ d ih =>
    intro l hl hI
    refine br_f (nI_nlt (by omega) (by omega)) (br_f (nI_nlt (a := 10) (by omega) (by decide)) (fr_y_spl hV hs ht (by omega) (fun z => br_f (nI_pos ?_) ?_) (fun z => br_t (by decide) (nm_r (nI_1 (l + 1)) (ih (l + 1) (by omega) (fun m hm => ?_))))))
    · have h1 := (fr_lw_ok l s t z).1
      have h2 : 2 ^ (l + 1) ≤ 2 ^ 10 := Nat.pow_le_pow_right (by decide) (by omega)
      omega
    · have h1 : fr_lvl e 25 s t = l + 1 := (fr_lvl_eq (by decide) (by omega)).mpr ⟨by omega, z, hI⟩
      have h2 : fr_sh e s t = l + 1 := by
        unfold fr_sh
        rw [h1, if_neg (by omega)]
      rw [h2] at h
      exact h
    · by_cases hml : m = l
      · rw [hml]
        exact fr_bf z
      · exact hI m (by omega)
theorem fr_y_sh {post : Int32 → Prop} {s t : Nat} (hV : fr_V N e) (hs : s < N) (ht : t < N) (h : post (nI (fr_sh e s t))) : wpY_shortest post ((nI N), f_at, f_size, (fr_E e), a_fits, a_chosen) (nI s) (nI t) := by
  have h5 := hV.2.1
  exact And.intro (by decide) (nm_r (fr_pairs N (by omega) hV.1) (Exists.intro _ (fr_y_sh17 hV hs ht h (N * (N - 1) / 2) 0 (Nat.zero_add _) (fun m h => absurd h (Nat.not_lt_zero m)))))
theorem fr_y_tb17 {post : SY → Prop} {J2 : Int32 → (Nat → Int32) → (Nat → Int32) → (Nat → Int32) →  Prop} {s : Nat} (hV : fr_V N e) (hs : s < N) (HJ : ∀ fi, fr_FT N e (N * s + N) fi → J2 (nI (s + 1)) (fr_E e) fi a_chosen) : ∀ d t, t + d = N → ∀ fi, fr_FT N e (N * s + t) fi → wY_tabulate_17 post J2 (nI s) (nI N) f_at f_size (d + 1) (nI t) (fr_E e) fi a_chosen := by
  have h5 := hV.2.1
  intro d
  induction d with
  | zero =>
    intro t ht fi h
    have ht' : t = N := by omega
    subst ht'
    exact br_t (Int32.le_refl _) (nm_r (nI_1 s) (HJ fi h))
  | succ d ih =>
    intro t ht fi h
    have hin : vp_in (8 * nI s + nI t) 64 := by rw [fr_ix8]; exact vp_in_nI (by omega) (by decide)
    have hc : (8 * nI s + nI t).toNatClampNeg = 8 * s + t := by rw [fr_ix8]; exact nI_clamp (by omega)
    have hst : ∀ v, v = fr_bz e s t → wY_tabulate_17 post J2 (nI s) (nI N) f_at f_size (d + 1) (nI (t + 1)) (fr_E e) (upd fi (8 * s + t) v) a_chosen := by
      intro v hv
      refine ih (t + 1) (by omega) _ (fun s' t' hs' ht' hlt => ?_)
      by_cases hq : N * s' + t' = N * s + t
      · obtain ⟨h3, h4⟩ := fr_inj ht' (by omega) hq
        rw [h3, h4, pk_us]
        exact hv
      · rw [pk_un]
        · exact h s' t' hs' ht' (by omega)
        · intro z
          apply hq
          have e1 : s' = s := by omega
          have e2 : t' = t := by omega
          rw [e1, e2]
    refine br_f (nI_ge (by omega) (by omega)) (br_f (nI_ge (b := 5) (by omega) (by decide)) (fr_if (nI_eq (by omega) (by omega)) (fun z => ⟨hin, nm_r (e' := upd fi (8 * s + t) 1) (by rw [hc]; rfl) (nm_r (nI_1 t) (hst 1 ?_))⟩) (fun z => fr_y_sh hV hs (by omega) (fr_if (nI_eq (b := 0) fr_sh_lt (by decide)) (fun y => ⟨hin, nm_r (e' := upd fi (8 * s + t) 1) (by rw [hc]; rfl) (nm_r (nI_1 t) (hst 1 ?_))⟩) (fun y => ⟨hin, nm_r (e' := upd fi (8 * s + t) 0) (by rw [hc]; rfl) (nm_r (nI_1 t) (hst 0 ?_))⟩)))))
    · unfold fr_bz
      rw [← z, fr_lvl_irr e s (by decide), if_pos rfl]
    · unfold fr_bz
      rw [if_pos (fr_sh_0.mp y)]
    · unfold fr_bz
      rw [if_neg (fun w => y (fr_sh_0.mpr w))]
theorem fr_y_tb2 {post : SY → Prop} (hV : fr_V N e) (HP : ∀ fi, fr_FT N e (N * N) fi → post ((nI N), f_at, f_size, (fr_E e), fi, a_chosen)) : ∀ d s, s + d = N → ∀ fi, fr_FT N e (N * s) fi → wY_tabulate_2 post (nI N) f_at f_size (d + 1) (nI s) (fr_E e) fi a_chosen := by
  have h5 := hV.2.1
  intro d
  induction d with
  | zero =>
    intro s hs fi h
    have hs' : s = N := by omega
    subst hs'
    exact br_t (Int32.le_refl _) (HP fi h)
  | succ d ih =>
    intro s hs fi h
    exact br_f (nI_ge (by omega) (by omega)) (br_f (nI_ge (b := 5) (by omega) (by decide)) ⟨N + 1, fr_y_tb17 hV (by omega) (fun fi' h' => ih (s + 1) (by omega) fi' (by rw [Nat.mul_succ]; exact h')) N 0 (Nat.zero_add _) fi h⟩)
theorem fr_y_tb {post : SY → Prop} (hV : fr_V N e) (HP : ∀ fi, fr_FT N e (N * N) fi → post ((nI N), f_at, f_size, (fr_E e), fi, a_chosen)) : wpY_tabulate post ((nI N), f_at, f_size, (fr_E e), a_fits, a_chosen) :=
  Exists.intro (N + 1) (fr_y_tb2 hV HP N 0 (Nat.zero_add _) a_fits (fun s t _ _ h => by rw [Nat.mul_zero] at h; exact absurd h (Nat.not_lt_zero _)))
theorem fr_y_in {post : Int32 → Prop} {c s : Nat} (hc : c < 32) (hs : s < 5) (h1 : c.testBit s = true → post 1) (h0 : ¬ c.testBit s = true → post 0) : wpY_in post ((nI N), f_at, f_size, (fr_E e), a_fits, a_chosen) (nI c) (nI s) :=
  fr_if (fr_bitT c hc s hs) h1 h0
theorem fr_y_ag17 {post : Int32 → Prop} {J2 : Int32 → Prop} {c s : Nat} (hV : fr_V N e) (hc : c < 32) (hs : s < N) (hF : fr_FT N e (N * N) a_fits) (h0 : ¬ fr_Gd N e c = true → post 0) (HJ : (∀ s' t', s' < N → t' < N → N * s' + t' < N * s + N → c.testBit s' = true → c.testBit t' = true → fr_lvl e 25 s' t' = 1000) → J2 (nI (s + 1))) : ∀ d t, t + d = N → (∀ s' t', s' < N → t' < N → N * s' + t' < N * s + t → c.testBit s' = true → c.testBit t' = true → fr_lvl e 25 s' t' = 1000) → wY_agreeing_17 post J2 (nI c) (nI s) (nI N) f_at f_size (fr_E e) a_fits a_chosen (d + 1) (nI t) := by
  have h5 := hV.2.1
  intro d
  induction d with
  | zero =>
    intro t ht h
    have ht' : t = N := by omega
    subst ht'
    exact br_t (Int32.le_refl _) (nm_r (nI_1 s) (HJ h))
  | succ d ih =>
    intro t ht h
    have hin : vp_in (8 * nI s + nI t) 64 := by rw [fr_ix8]; exact vp_in_nI (by omega) (by decide)
    have hcl : (8 * nI s + nI t).toNatClampNeg = 8 * s + t := by rw [fr_ix8]; exact nI_clamp (by omega)
    have hnext : (c.testBit s = true → c.testBit t = true → fr_lvl e 25 s t = 1000) → wY_agreeing_17 post J2 (nI c) (nI s) (nI N) f_at f_size (fr_E e) a_fits a_chosen (d + 1) (nI (t + 1)) := by
      intro z
      refine ih (t + 1) (by omega) (fun s' t' hs' ht' hlt => ?_)
      by_cases hq : N * s' + t' = N * s + t
      · obtain ⟨h3, h4⟩ := fr_inj ht' (by omega) hq
        rw [h3, h4]
        exact z
      · exact h s' t' hs' ht' (by omega)
    refine br_f (nI_ge (by omega) (by omega)) (br_f (nI_ge (b := 5) (by omega) (by decide)) (fr_y_in hc (by omega) (fun b1 => br_f fr_01 (fr_y_in hc (by omega) (fun b2 => br_f fr_01 ⟨hin, ?_⟩) (fun b2 => br_t rfl (nm_r (nI_1 t) (hnext (fun _ z => absurd z b2)))))) (fun b1 => br_t rfl (nm_r (nI_1 t) (hnext (fun z => absurd z b1))))))
    rw [hcl, hF s t hs (by omega) (fr_lin hs (by omega))]
    unfold fr_bz
    by_cases hz : fr_lvl e 25 s t = 1000
    · rw [if_pos hz]
      exact br_f fr_01 (nm_r (nI_1 t) (hnext (fun _ _ => hz)))
    · rw [if_neg hz]
      exact br_t rfl (h0 (fun z => hz (fr_Gd_iff.mp z s hs t (by omega) b1 b2)))
theorem fr_y_ag2 {post : Int32 → Prop} {c : Nat} (hV : fr_V N e) (hc : c < 32) (hF : fr_FT N e (N * N) a_fits) (h1 : fr_Gd N e c = true → post 1) (h0 : ¬ fr_Gd N e c = true → post 0) : ∀ d s, s + d = N → (∀ s' t', s' < N → t' < N → N * s' + t' < N * s → c.testBit s' = true → c.testBit t' = true → fr_lvl e 25 s' t' = 1000) → wY_agreeing_2 post (nI c) (nI N) f_at f_size (fr_E e) a_fits a_chosen (d + 1) (nI s) := by
  have h5 := hV.2.1
  intro d
  induction d with
  | zero =>
    intro s hs h
    have hs' : s = N := by omega
    subst hs'
    exact br_t (Int32.le_refl _) (h1 (fr_Gd_iff.mpr (fun s' hs' t' ht' => h s' t' hs' ht' (fr_lin hs' ht'))))
  | succ d ih =>
    intro s hs h
    exact br_f (nI_ge (by omega) (by omega)) (br_f (nI_ge (b := 5) (by omega) (by decide)) ⟨N + 1, fr_y_ag17 hV hc (by omega) hF h0 (fun h' => ih (s + 1) (by omega) (by rw [Nat.mul_succ]; exact h')) N 0 (Nat.zero_add _) h⟩)
theorem fr_y_ag {post : Int32 → Prop} {c : Nat} (hV : fr_V N e) (hc : c < 32) (hF : fr_FT N e (N * N) a_fits) (h1 : fr_Gd N e c = true → post 1) (h0 : ¬ fr_Gd N e c = true → post 0) : wpY_agreeing post ((nI N), f_at, f_size, (fr_E e), a_fits, a_chosen) (nI c) :=
  Exists.intro (N + 1) (fr_y_ag2 hV hc hF h1 h0 N 0 (Nat.zero_add _) (fun s t _ _ h => by rw [Nat.mul_zero] at h; exact absurd h (Nat.not_lt_zero _)))
theorem fr_y_lg12 {post : Int32 → Prop} {c : Nat} (hV : fr_V N e) (hc : c < 2 ^ N) (hQ : fr_Q N e c = true) (hF : fr_FT N e (N * N) a_fits) (h1 : fr_mx N e (fr_ps N e c) = true → post 1) (h0 : ¬ fr_mx N e (fr_ps N e c) = true → post 0) : ∀ d x, x + d = 2 ^ N → 1 ≤ x → (∀ y, y < x → 1 ≤ y → y ≠ c → fr_sub c y → ¬ fr_Gd N e y = true) → wY_largest_12 post (nI c) (nI N) f_at f_size (fr_E e) a_fits a_chosen (d + 1) (nI x) := by
  have h5 := hV.2.1
  have h32 := fr_p32 h5
  obtain ⟨f1, f2⟩ := fr_f_ps hc hQ
  intro d
  induction d with
  | zero =>
    intro x hx _ h
    have hx' : x = 2 ^ N := by omega
    subst hx'
    refine br_t (by rw [fr_shT N (by omega)]; exact Int32.le_refl _) (h1 (fr_mx_iff.mpr (fun k hk hpk hs => ?_)))
    rw [f1] at hs
    obtain ⟨g1, g2, g3⟩ := fr_f_ok hk
    have g4 := fr_Q_iff.mp g2
    refine h (fr_f N e k) g1 g4.1 (fun z => ?_) hs g4.2
    rw [z] at g3
    omega
  | succ d ih =>
    intro x hx hx1 h
    have hnext : (x ≠ c → fr_sub c x → ¬ fr_Gd N e x = true) → wY_largest_12 post (nI c) (nI N) f_at f_size (fr_E e) a_fits a_chosen (d + 1) (nI (x + 1)) := by
      intro z
      refine ih (x + 1) (by omega) (by omega) (fun y hy hy1 hyc => ?_)
      by_cases hyx : y = x
      · rw [hyx] at hyc ⊢
        exact z hyc
      · exact h y (by omega) hy1 hyc
    refine br_f (by rw [fr_shT N (by omega)]; exact nI_ge (by omega) (by omega)) (fr_if (nI_eq (by omega) (by omega)) (fun z => nm_r (nI_1 x) (hnext (fun y => absurd z y))) (fun z => fr_if (fr_subY c (by omega) x (by omega)) (fun y => fr_y_ag hV (by omega) hF (fun w => br_f fr_01 (h0 (fun v => ?_))) (fun w => br_t rfl (nm_r (nI_1 x) (hnext (fun _ _ => w))))) (fun y => nm_r (nI_1 x) (hnext (fun _ w => absurd w y)))))
    have hQx : fr_Q N e x = true := fr_Q_iff.mpr ⟨hx1, w⟩
    obtain ⟨g1, g2⟩ := fr_f_ps (N := N) (e := e) (c := x) (by omega) hQx
    have hle := fr_sub_le y
    refine fr_mx_iff.mp v (fr_ps N e x) g2 (fr_cnt_lt (by omega) hQ) ?_
    rw [f1, g1]
    exact y
theorem fr_y_lg {post : Int32 → Prop} {c : Nat} (hV : fr_V N e) (hc1 : 1 ≤ c) (hc : c < 2 ^ N) (hF : fr_FT N e (N * N) a_fits) (h1 : fr_Q N e c = true → fr_mx N e (fr_ps N e c) = true → post 1) (h0 : ¬ (fr_Q N e c = true ∧ fr_mx N e (fr_ps N e c) = true) → post 0) : wpY_largest post ((nI N), f_at, f_size, (fr_E e), a_fits, a_chosen) (nI c) := by
  have h5 := hV.2.1
  have h32 := fr_p32 h5
  refine fr_y_ag hV (by omega) hF (fun z => br_f fr_01 ?_) (fun z => br_t rfl (h0 (fun y => z (fr_Q_iff.mp y.1).2)))
  have hQ : fr_Q N e c = true := fr_Q_iff.mpr ⟨hc1, z⟩
  exact Exists.intro _ (fr_y_lg12 hV hc hQ hF (h1 hQ) (fun y => h0 (fun w => y w.2)) (2 ^ N - 1) 1 (by omega) (Nat.le_refl 1) (fun y hy hy1 => absurd hy1 (by omega)))
theorem fr_y_ms8 {post : Int32 → SY → Prop} (hV : fr_V N e) (hF : fr_FT N e (N * N) a_fits) (h : post (nI (fr_cnt (fr_mx N e) (fr_S N e))) ((nI N), f_at, f_size, (fr_E e), a_fits, a_chosen)) : ∀ d c, c + d = 2 ^ N → 1 ≤ c → wY_maximals_8 post (nI N) f_at f_size (fr_E e) a_fits a_chosen (d + 1) (nI (fr_cnt (fr_mx N e) (fr_ps N e c))) (nI c) := by
  have h5 := hV.2.1
  have h32 := fr_p32 h5
  intro d
  induction d with
  | zero =>
    intro c hc _
    have hc' : c = 2 ^ N := by omega
    subst hc'
    exact br_t (by rw [fr_shT N (by omega)]; exact Int32.le_refl _) h
  | succ d ih =>
    intro c hc hc1
    have ih2 := ih (c + 1) (by omega) (by omega)
    refine br_f (by rw [fr_shT N (by omega)]; exact nI_ge (by omega) (by omega)) (fr_y_lg hV hc1 (by omega) hF (fun q z => br_f fr_01 (nm_r (nI_1 _) (nm_r (nI_1 c) ?_))) (fun z => br_t rfl (nm_r (nI_1 c) ?_)))
    · have e1 : fr_ps N e (c + 1) = fr_ps N e c + 1 := fr_cnt_t q
      rw [e1, fr_cnt_t z] at ih2
      exact ih2
    · by_cases q : fr_Q N e c = true
      · have e1 : fr_ps N e (c + 1) = fr_ps N e c + 1 := fr_cnt_t q
        rw [e1, fr_cnt_f (fun y => z ⟨q, y⟩)] at ih2
        exact ih2
      · have e1 : fr_ps N e (c + 1) = fr_ps N e c := fr_cnt_f q
        rw [e1] at ih2
        exact ih2
theorem fr_y_mx8 {post : Int32 → SY → Prop} {v : Int32} (hV : fr_V N e) (hF : fr_FT N e (N * N) a_fits) (hf : ∀ j, j < fr_S N e → fr_mx N e j = true → v = nI (fr_cnt (fr_mx N e) j) → post (nI (fr_f N e j)) ((nI N), f_at, f_size, (fr_E e), a_fits, a_chosen)) (hn : (∀ j, j < fr_S N e → fr_mx N e j = true → ¬ v = nI (fr_cnt (fr_mx N e) j)) → post (-1) ((nI N), f_at, f_size, (fr_E e), a_fits, a_chosen)) : ∀ d c, c + d = 2 ^ N → 1 ≤ c → (∀ j, j < fr_ps N e c → fr_mx N e j = true → ¬ v = nI (fr_cnt (fr_mx N e) j)) → wY_maximal_8 post v (nI N) f_at f_size (fr_E e) a_fits a_chosen (d + 1) (nI (fr_cnt (fr_mx N e) (fr_ps N e c))) (nI c) := by
  have h5 := hV.2.1
  have h32 := fr_p32 h5
  intro d
  induction d with
  | zero =>
    intro c hc _ hI
    have hc' : c = 2 ^ N := by omega
    subst hc'
    exact br_t (by rw [fr_shT N (by omega)]; exact Int32.le_refl _) (hn hI)
  | succ d ih =>
    intro c hc hc1 hI
    have ih2 := ih (c + 1) (by omega) (by omega)
    refine br_f (by rw [fr_shT N (by omega)]; exact nI_ge (by omega) (by omega)) (fr_y_lg hV hc1 (by omega) hF (fun q z => br_f fr_01 (br_c (fun y => ?_) (fun y => nm_r (nI_1 _) (nm_r (nI_1 c) ?_)))) (fun z => br_t rfl (nm_r (nI_1 c) ?_)))
    · obtain ⟨f1, f2⟩ := fr_f_ps (N := N) (e := e) (c := c) (by omega) q
      have h := hf _ f2 z y.symm
      rw [f1] at h
      exact h
    · have e1 : fr_ps N e (c + 1) = fr_ps N e c + 1 := fr_cnt_t q
      rw [e1, fr_cnt_t z] at ih2
      refine ih2 (fun j hj hm => ?_)
      by_cases hjc : j = fr_ps N e c
      · rw [hjc]
        exact fun w => y w.symm
      · exact hI j (by omega) hm
    · by_cases q : fr_Q N e c = true
      · have e1 : fr_ps N e (c + 1) = fr_ps N e c + 1 := fr_cnt_t q
        rw [e1, fr_cnt_f (fun y => z ⟨q, y⟩)] at ih2
        refine ih2 (fun j hj hm => ?_)
        by_cases hjc : j = fr_ps N e c
        · rw [hjc] at hm
          exact absurd ⟨q, hm⟩ z
        · exact hI j (by omega) hm
      · have e1 : fr_ps N e (c + 1) = fr_ps N e c := fr_cnt_f q
        rw [e1] at ih2
        exact ih2 hI
theorem fr_y_im5 {post : Int32 → Prop} {c a : Nat} (hV : fr_V N e) (hc : c < 32) (ha : a < 2) (h : post (nI (fr_im N e c a))) : ∀ d s, s + d = N → wY_image_5 post (nI c) (nI a) (nI N) f_at f_size (fr_E e) a_fits a_chosen (d + 1) (nI (fr_imr e c a s)) (nI s) := by
  have h5 := hV.2.1
  have h32 := fr_p32 h5
  intro d
  induction d with
  | zero =>
    intro s hs
    have hs' : s = N := by omega
    subst hs'
    exact br_t (Int32.le_refl _) h
  | succ d ih =>
    intro s hs
    have n1 := fr_nx_le hV s a
    have i1 := fr_imr32 hV c a s
    have ih2 := ih (s + 1) (by omega)
    refine br_f (nI_ge (by omega) (by omega)) (br_f (nI_ge (b := 5) (by omega) (by decide)) (fr_y_next hV (by omega) ha (fr_y_in hc (by omega) (fun b => br_f fr_01 (fr_brM (by omega) (fun z => nm_r (nI_1 s) ?_) (fun z => nm_r (e' := nI (fr_imr e c a (s + 1))) ?_ (nm_r (nI_1 s) ih2)))) (fun b => br_t rfl (nm_r (nI_1 s) ?_)))))
    · rw [fr_imr_f (fun y => by have := y.2; omega)] at ih2
      exact ih2
    · rw [fr_pr z, fr_shT _ (by omega), fr_orT _ (by omega) _ (fr_p32' (by omega)), fr_imr_t b z]
    · rw [fr_imr_f (fun y => b y.1)] at ih2
      exact ih2
theorem fr_y_im {post : Int32 → Prop} {c a : Nat} (hV : fr_V N e) (hc : c < 32) (ha : a < 2) (h : post (nI (fr_im N e c a))) : wpY_image post ((nI N), f_at, f_size, (fr_E e), a_fits, a_chosen) (nI c) (nI a) :=
  Exists.intro (N + 1) (fr_y_im5 hV hc ha h N 0 (Nat.zero_add _))
end
end
section
/-! the reference: its search for a cover -/
section
variable {N : Nat} {e : Nat → Nat} {f_at f_size : Int32} {a_fits a_chosen : Nat → Int32}
theorem fr_y_wi2 {post : Int32 → Prop} {x k : Nat} {g : Nat → Nat} (hx : x < 32) (hk : k ≤ 5) (hg : ∀ i, i < k → a_chosen i = nI (g i) ∧ g i < 32) (h1 : ∀ i, i < k → fr_sub x (g i) → post 1) (h0 : (∀ i, i < k → ¬ fr_sub x (g i)) → post 0) : ∀ d i, i + d = k → (∀ j, j < i → ¬ fr_sub x (g j)) → wY_within_2 post (nI x) (nI N) f_at (nI k) (fr_E e) a_fits a_chosen (d + 1) (nI i) := by
  intro d
  induction d with
  | zero =>
    intro i hi hI
    have hi' : i = k := by omega
    subst hi'
    exact br_t (Int32.le_refl _) (h0 hI)
  | succ d ih =>
    intro i hi hI
    obtain ⟨g1, g2⟩ := hg i (by omega)
    refine br_f (nI_ge (by omega) (by omega)) (br_f (nI_ge (b := 5) (by omega) (by decide)) ⟨vp_in_nI (by omega) (by decide), ?_⟩)
    rw [nI_clamp (by omega), g1]
    refine fr_if (fr_subY x hx (g i) g2) (fun z => h1 i (by omega) z) (fun z => nm_r (nI_1 i) (ih (i + 1) (by omega) (fun j hj => ?_)))
    by_cases hji : j = i
    · rw [hji]
      exact z
    · exact hI j (by omega)
theorem fr_y_wi {post : Int32 → Prop} {x k : Nat} {g : Nat → Nat} (hx : x < 32) (hk : k ≤ 5) (hg : ∀ i, i < k → a_chosen i = nI (g i) ∧ g i < 32) (h1 : ∀ i, i < k → fr_sub x (g i) → post 1) (h0 : (∀ i, i < k → ¬ fr_sub x (g i)) → post 0) : wpY_within post ((nI N), f_at, (nI k), (fr_E e), a_fits, a_chosen) (nI x) :=
  Exists.intro (k + 1) (fr_y_wi2 hx hk hg h1 h0 k 0 (by omega) (fun j h => absurd h (Nat.not_lt_zero j)))
theorem fr_y_cv43 {post : Int32 → Prop} {J4 : Int32 → Int32 → Prop} {i k : Nat} {x1 : Int32} {g : Nat → Nat} (hV : fr_V N e) (hk : k ≤ 5) (hi : i < k) (hg : ∀ i, i < k → a_chosen i = nI (g i) ∧ g i < 32) (h0 : ¬ fr_CV N e k g → post 0) (HJ : (∀ a, a < 2 → ∃ l, l < k ∧ fr_sub (fr_im N e (g i) a) (g l)) → J4 x1 (nI (i + 1))) : ∀ d a, a + d = 2 → (∀ b, b < a → ∃ l, l < k ∧ fr_sub (fr_im N e (g i) b) (g l)) → wY_covers_43 post J4 x1 (nI i) (nI N) f_at (nI k) (fr_E e) a_fits a_chosen (d + 1) (nI a) := by
  intro d
  induction d with
  | zero =>
    intro a ha h
    have ha' : a = 2 := by omega
    subst ha'
    exact br_t (by decide) (nm_r (nI_1 i) (HJ h))
  | succ d ih =>
    intro a ha h
    obtain ⟨g1, g2⟩ := hg i hi
    refine br_f (nI_ge (b := 2) (by omega) (by decide)) ⟨vp_in_nI (by omega) (by decide), ?_⟩
    rw [nI_clamp (by omega), g1]
    refine fr_y_im hV g2 (by omega) (fr_y_wi (fr_im32 hV _ _) hk hg (fun l hl hs => br_f fr_01 (nm_r (nI_1 a) (ih (a + 1) (by omega) (fun b hb => ?_)))) (fun hn => br_t rfl (h0 (fun hc => ?_))))
    · by_cases hba : b = a
      · rw [hba]
        exact ⟨l, hl, hs⟩
      · exact h b (by omega)
    · obtain ⟨l, hl, hs⟩ := hc.2.2 i hi a (by omega)
      exact hn l hl hs
theorem fr_y_cv4 {post : Int32 → Prop} {k : Nat} {g : Nat → Nat} (hV : fr_V N e) (hk : k ≤ 5) (hF : fr_FT N e (N * N) a_fits) (hg : ∀ i, i < k → a_chosen i = nI (g i) ∧ g i < 2 ^ N) (h1 : fr_CV N e k g → post 1) (h0 : ¬ fr_CV N e k g → post 0) : ∀ d i, i + d = k → (∀ j, j < i → fr_Gd N e (g j) = true ∧ ∀ a, a < 2 → ∃ l, l < k ∧ fr_sub (fr_im N e (g j) a) (g l)) → wY_covers_4 post (nI N) f_at (nI k) (fr_E e) a_fits a_chosen (d + 1) (nI (fr_or g i)) (nI i) := by
  have h5 := hV.2.1
  have h32 := fr_p32 h5
  have hg2 : ∀ i, i < k → a_chosen i = nI (g i) ∧ g i < 32 := fun i hi => ⟨(hg i hi).1, by have := (hg i hi).2; omega⟩
  intro d
  induction d with
  | zero =>
    intro i hi h
    have hi' : i = k := by omega
    subst hi'
    have ho : fr_or g i < 2 ^ N := fr_or_lt i (fun j hj => (hg j hj).2)
    refine br_t (Int32.le_refl _) ?_
    show (_ → _) ∧ (_ → _)
    rw [fr_shT N (by omega), fr_full N (by omega)]
    exact fr_if (nI_eq (by omega) (by omega)) (fun z => h1 ⟨fun j hj => (h j hj).1, z, fun j hj => (h j hj).2⟩) (fun z => h0 (fun y => z y.2.1))
  | succ d ih =>
    intro i hi h
    obtain ⟨g1, g2⟩ := hg i (by omega)
    have ho : fr_or g i < 2 ^ N := fr_or_lt i (fun j hj => (hg j (by omega)).2)
    refine br_f (nI_ge (by omega) (by omega)) (br_f (nI_ge (b := 5) (by omega) (by decide)) ⟨vp_in_nI (by omega) (by decide), ?_⟩)
    rw [nI_clamp (by omega), g1]
    refine fr_y_ag hV (by omega) hF (fun z => br_f fr_01 ⟨vp_in_nI (by omega) (by decide), nm_r (fr_orT _ (by omega) _ (by omega)) (Exists.intro 3 (fr_y_cv43 hV hk (by omega) hg2 h0 (fun hc => ih (i + 1) (by omega) (fun j hj => ?_)) 2 0 rfl (fun b hb => absurd hb (Nat.not_lt_zero b))))⟩) (fun z => br_t rfl (h0 (fun y => z (y.1 i (by omega)))))
    by_cases hji : j = i
    · rw [hji]
      exact ⟨z, hc⟩
    · exact h j (by omega)
theorem fr_y_cv {post : Int32 → Prop} {k : Nat} {g : Nat → Nat} (hV : fr_V N e) (hk : k ≤ 5) (hF : fr_FT N e (N * N) a_fits) (hg : ∀ i, i < k → a_chosen i = nI (g i) ∧ g i < 2 ^ N) (h1 : fr_CV N e k g → post 1) (h0 : ¬ fr_CV N e k g → post 0) : wpY_covers post ((nI N), f_at, (nI k), (fr_E e), a_fits, a_chosen) :=
  Exists.intro (k + 1) (fr_y_cv4 hV hk hF hg h1 h0 k 0 (by omega) (fun j h => absurd h (Nat.not_lt_zero j)))
theorem fr_y_rm7 {post : Int32 → Prop} {b m : Nat} (hV : fr_V N e) (hm : m < 100) (hF : fr_FT N e (N * N) a_fits) (h1 : m + b ≤ fr_S N e → post 1) (h0 : fr_S N e < m + b → post 0) : ∀ d c, c + d = 2 ^ N → 1 ≤ c → ∀ q, q + b = fr_ps N e c → wY_room_7 post (nI m) (nI N) f_at f_size (fr_E e) a_fits a_chosen (d + 1) (nI q) (nI c) := by
  have h5 := hV.2.1
  have h32 := fr_p32 h5
  intro d
  induction d with
  | zero =>
    intro c hc hc1 q hq
    have hc' : c = 2 ^ N := by omega
    subst hc'
    have hps : fr_ps N e (2 ^ N) = fr_S N e := rfl
    have hS := fr_S31 e h5
    exact br_t (by rw [fr_shT N (by omega)]; exact Int32.le_refl _) (fr_if (nI_ltI (by omega) (by omega)) (fun z => h0 (by omega)) (fun z => h1 (by omega)))
  | succ d ih =>
    intro c hc hc1 q hq
    refine br_f (by rw [fr_shT N (by omega)]; exact nI_ge (by omega) (by omega)) (fr_y_ag hV (by omega) hF (fun z => br_f fr_01 (nm_r (nI_1 q) (nm_r (nI_1 c) (ih (c + 1) (by omega) (by omega) (q + 1) ?_)))) (fun z => br_t rfl (nm_r (nI_1 c) (ih (c + 1) (by omega) (by omega) q ?_))))
    · have e1 : fr_ps N e (c + 1) = fr_ps N e c + 1 := fr_cnt_t (fr_Q_iff.mpr ⟨hc1, z⟩)
      omega
    · have e1 : fr_ps N e (c + 1) = fr_ps N e c := fr_cnt_f (fun y => z (fr_Q_iff.mp y).2)
      omega
theorem fr_y_rm {post : Int32 → Prop} {c m : Nat} (hV : fr_V N e) (hm : m < 100) (hc : c < 2 ^ N) (hF : fr_FT N e (N * N) a_fits) (h1 : m + fr_ps N e (c + 1) ≤ fr_S N e → post 1) (h0 : fr_S N e < m + fr_ps N e (c + 1) → post 0) : wpY_room post ((nI N), f_at, f_size, (fr_E e), a_fits, a_chosen) (nI c) (nI m) :=
  nm_r (nI_1 c) (Exists.intro _ (fr_y_rm7 hV hm hF h1 h0 (2 ^ N - (c + 1)) (c + 1) (by omega) (by omega) 0 (Nat.zero_add _)))
theorem fr_y_pl5 {post : SY → Prop} {i k P0 : Nat} {ch0 : Nat → Int32} (hV : fr_V N e) (hk : k ≤ 5) (hik : i ≤ k) (hP : k + P0 ≤ i + fr_S N e) (hF : fr_FT N e (N * N) a_fits) (HP : ∀ ch, (∀ j, j < i → ch j = ch0 j) → (∀ r, i + r < k → ch (i + r) = nI (fr_f N e (P0 + r))) → post ((nI N), f_at, (nI k), (fr_E e), a_fits, ch)) : ∀ d c, c + d = 2 ^ N → 1 ≤ c → ∀ at' ch, i ≤ at' → at' ≤ k → at' + P0 ≤ i + fr_ps N e c → (at' < k → at' + P0 = i + fr_ps N e c) → (∀ j, j < i → ch j = ch0 j) → (∀ r, i + r < at' → ch (i + r) = nI (fr_f N e (P0 + r))) → wY_place_5 post (nI N) f_at (nI k) (d + 1) (nI at') (nI c) (fr_E e) a_fits ch := by
  have h5 := hV.2.1
  have h32 := fr_p32 h5
  intro d
  induction d with
  | zero =>
    intro c hc hc1 at' ch b1 b2 b3 b4 b5 b6
    have hc' : c = 2 ^ N := by omega
    subst hc'
    have hps : fr_ps N e (2 ^ N) = fr_S N e := rfl
    exact br_t (by rw [fr_shT N (by omega)]; exact Int32.le_refl _) (HP ch b5 (fun r hr => b6 r (by omega)))
  | succ d ih =>
    intro c hc hc1 at' ch b1 b2 b3 b4 b5 b6
    have hmono : fr_ps N e c ≤ fr_ps N e (c + 1) := fr_cnt_mono _ (by omega)
    refine br_f (by rw [fr_shT N (by omega)]; exact nI_ge (by omega) (by omega)) (fr_if (nI_leI (by omega) (by omega)) (fun z => nm_r (nI_1 c) (ih (c + 1) (by omega) (by omega) at' ch b1 b2 (by omega) (fun y => by omega) b5 b6)) (fun z => br_f (nI_ge (b := 5) (by omega) (by decide)) (fr_y_ag hV (by omega) hF (fun y => br_f fr_01 ⟨vp_in_nI (by omega) (by decide), nm_r (e' := upd ch at' (nI c)) (by rw [nI_clamp (by omega)]) (nm_r (nI_1 at') (nm_r (nI_1 c) ?_))⟩) (fun y => br_t rfl (nm_r (nI_1 c) ?_)))))
    · have hQ : fr_Q N e c = true := fr_Q_iff.mpr ⟨hc1, y⟩
      have e1 : fr_ps N e (c + 1) = fr_ps N e c + 1 := fr_cnt_t hQ
      have e2 := b4 (by omega)
      refine ih (c + 1) (by omega) (by omega) (at' + 1) _ (by omega) (by omega) (by omega) (fun _ => by omega) (fun j hj => ?_) (fun r hr => ?_)
      · rw [pk_un (by omega)]
        exact b5 j hj
      · by_cases hra : i + r = at'
        · rw [hra, pk_us, show P0 + r = fr_ps N e c from by omega, (fr_f_ps (by omega) hQ).1]
        · rw [pk_un hra]
          exact b6 r (by omega)
    · have e1 : fr_ps N e (c + 1) = fr_ps N e c := fr_cnt_f (fun w => y (fr_Q_iff.mp w).2)
      exact ih (c + 1) (by omega) (by omega) at' ch b1 b2 (by omega) (fun w => by have := b4 w; omega) b5 b6
theorem fr_y_pl {post : SY → Prop} {i k c : Nat} (hV : fr_V N e) (hk : k ≤ 5) (hik : i ≤ k) (hc1 : 1 ≤ c) (hc : c < 2 ^ N) (hP : k + fr_ps N e c ≤ i + fr_S N e) (hF : fr_FT N e (N * N) a_fits) (HP : ∀ ch, (∀ j, j < i → ch j = a_chosen j) → (∀ r, i + r < k → ch (i + r) = nI (fr_f N e (fr_ps N e c + r))) → post ((nI N), f_at, (nI k), (fr_E e), a_fits, ch)) : wpY_place post ((nI N), f_at, (nI k), (fr_E e), a_fits, a_chosen) (nI i) (nI c) :=
  Exists.intro _ (fr_y_pl5 hV hk hik hP hF HP (2 ^ N - c) c (by omega) hc1 i a_chosen (Nat.le_refl i) hik (by omega) (fun _ => rfl) (fun _ _ => rfl) (fun r hr => absurd hr (by omega)))
theorem fr_y_ad50 {post : Int32 → SY → Prop} {J7 : Int32 → Prop} {i k ab : Nat} {p : Nat → Nat} (hV : fr_V N e) (hk : k ≤ 5) (hi : i < k) (hF : fr_FT N e (N * N) a_fits) (hp : ∀ j, j < k → a_chosen j = nI (fr_f N e (p j))) (hab : ab ≤ 2 ^ N) (hA : fr_ps N e ab + k = fr_S N e + i + 1) (HJ : p i + k = fr_S N e + i → J7 (nI i - 1)) (HP : p i + k < fr_S N e + i → ∀ ch, (∀ j, j < k → ch j = nI (fr_f N e (fr_nl p i j))) → post 1 ((nI N), f_at, (nI k), (fr_E e), a_fits, ch)) : ∀ d c, c + d = ab → 1 ≤ c → fr_ps N e c = p i + 1 → wY_advance_50 post J7 (nI i) (nI ab) (nI N) f_at (nI k) (fr_E e) a_fits a_chosen (d + 1) (nI c) := by
  have h5 := hV.2.1
  have h32 := fr_p32 h5
  intro d
  induction d with
  | zero =>
    intro c hc hc1 hps
    have hc' : c = ab := by omega
    subst hc'
    exact br_t (Int32.le_refl _) (nm_r (fr_dec i) (HJ (by omega)))
  | succ d ih =>
    intro c hc hc1 hps
    refine br_f (nI_ge (by omega) (by omega)) (fr_y_ag hV (by omega) hF (fun z => br_f fr_01 ?_) (fun z => br_t rfl (nm_r (nI_1 c) (ih (c + 1) (by omega) (by omega) ?_))))
    · have hQ : fr_Q N e c = true := fr_Q_iff.mpr ⟨hc1, z⟩
      have e1 : fr_ps N e (c + 1) = fr_ps N e c + 1 := fr_cnt_t hQ
      have e2 : fr_ps N e c < fr_ps N e ab := fr_cnt_lt (by omega) hQ
      rw [fr_pr (k := k) (by omega), pk_sub (by omega)]
      refine fr_y_rm hV (by omega) (by omega) hF (fun _ => br_f fr_01 (fr_y_pl hV hk (by omega) hc1 (by omega) (by omega) hF (fun ch hlo hhi => HP (by omega) ch (fun j hj => ?_)))) (fun y => absurd y (by omega))
      by_cases hji : j < i
      · rw [hlo j hji, fr_nl_lo hji]
        exact hp j hj
      · have h6 := hhi (j - i) (by omega)
        rw [show i + (j - i) = j from by omega] at h6
        rw [h6, fr_nl_hi hji, hps]
    · have e1 : fr_ps N e (c + 1) = fr_ps N e c := fr_cnt_f (fun w => z (fr_Q_iff.mp w).2)
      omega
theorem fr_y_ad7 {post : Int32 → SY → Prop} {k : Nat} {p : Nat → Nat} (hV : fr_V N e) (hk : k ≤ 5) (hF : fr_FT N e (N * N) a_fits) (hic : fr_ic (fr_S N e) k p) (hp : ∀ j, j < k → a_chosen j = nI (fr_f N e (p j))) (HN : (∀ l, l < k → p l + k = fr_S N e + l) → post 0 ((nI N), f_at, (nI k), (fr_E e), a_fits, a_chosen)) (HP : ∀ i, i < k → p i + k < fr_S N e + i → (∀ l, i < l → l < k → p l + k = fr_S N e + l) → ∀ ch, (∀ j, j < k → ch j = nI (fr_f N e (fr_nl p i j))) → post 1 ((nI N), f_at, (nI k), (fr_E e), a_fits, ch)) : ∀ m, m ≤ k → (∀ l, m ≤ l → l < k → p l + k = fr_S N e + l) → wY_advance_7 post (nI N) f_at (nI k) (fr_E e) a_fits a_chosen (m + 1) (nI m - 1) := by
  have h5 := hV.2.1
  have h32 := fr_p32 h5
  intro m
  induction m with
  | zero =>
    intro _ h
    exact br_t (by decide) (HN (fun l hl => h l (Nat.zero_le l) hl))
  | succ m ih =>
    intro hm h
    have hpm := hic.2 m (by omega)
    obtain ⟨f1, f2, f3⟩ := fr_f_ok hpm
    have hps : fr_ps N e (fr_f N e (p m) + 1) = p m + 1 := by
      have e1 : fr_ps N e (fr_f N e (p m) + 1) = fr_ps N e (fr_f N e (p m)) + 1 := fr_cnt_t f2
      rw [e1, f3]
    have hJ : p m + k = fr_S N e + m → wY_advance_7 post (nI N) f_at (nI k) (fr_E e) a_fits a_chosen (m + 1) (nI m - 1) := fun z => ih (by omega) (fun l hl hlk => by
      by_cases hlm : l = m
      · rw [hlm]
        exact z
      · exact h l (by omega) hlk)
    have hP2 : p m + k < fr_S N e + m → ∀ ch, (∀ j, j < k → ch j = nI (fr_f N e (fr_nl p m j))) → post 1 ((nI N), f_at, (nI k), (fr_E e), a_fits, ch) := fun z => HP m (by omega) z (fun l hl hlk => h l (by omega) hlk)
    have h40 : ∀ ab, ab ≤ 2 ^ N → fr_f N e (p m) + 1 ≤ ab → fr_ps N e ab + k = fr_S N e + m + 1 → wY_advance_40 post (wY_advance_7 post (nI N) f_at (nI k) (fr_E e) a_fits a_chosen (m + 1)) (nI m) (nI ab) (nI N) f_at (nI k) (fr_E e) a_fits a_chosen := by
      intro ab hab hle hA
      refine And.intro (vp_in_nI (by omega) (by decide)) (nm_r (e' := nI (fr_f N e (p m) + 1)) ?_ (Exists.intro _ (fr_y_ad50 hV hk (by omega) hF hp hab hA hJ hP2 (ab - (fr_f N e (p m) + 1)) (fr_f N e (p m) + 1) (by omega) (by omega) hps)))
      rw [nI_clamp (by omega), hp m (by omega), nI_1]
    rw [nI_pred]
    refine br_f (nI_pos (by omega)) ?_
    rw [fr_pr (k := k) (by omega)]
    refine fr_if (nI_leI (by omega) (by omega)) (fun z => ?_) (fun z => ?_)
    · rw [fr_shT N (by omega)]
      refine h40 (2 ^ N) (Nat.le_refl _) (by omega) ?_
      have hS : fr_ps N e (2 ^ N) = fr_S N e := rfl
      rw [hS]
      omega
    · have hpm1 := hic.2 (m + 1) (by omega)
      obtain ⟨g1, g2, g3⟩ := fr_f_ok hpm1
      have hrem : nI (m + 1) - nI (m + 1) / 5 * 5 = nI (m + 1) := by
        rw [show nI (m + 1) - nI (m + 1) / 5 * 5 = nI ((m + 1) % 5) from pk_rem (d := 5) (by omega) (by decide) (by decide), Nat.mod_eq_of_lt (by omega)]
      rw [nI_1 m, hrem, nI_clamp (n := m + 1) (by omega), hp (m + 1) (by omega)]
      refine ⟨by decide, vp_in_nI (by omega) (by decide), h40 _ (by omega) (fr_f_mono (hic.1 m (by omega)) hpm1) ?_⟩
      rw [g3]
      have := h (m + 1) (by omega) (by omega)
      omega
theorem fr_y_ad {post : Int32 → SY → Prop} {k : Nat} {p : Nat → Nat} (hV : fr_V N e) (hk1 : 1 ≤ k) (hk : k ≤ 5) (hF : fr_FT N e (N * N) a_fits) (hic : fr_ic (fr_S N e) k p) (hp : ∀ j, j < k → a_chosen j = nI (fr_f N e (p j))) (HN : (∀ l, l < k → p l + k = fr_S N e + l) → post 0 ((nI N), f_at, (nI k), (fr_E e), a_fits, a_chosen)) (HP : ∀ i, i < k → p i + k < fr_S N e + i → (∀ l, i < l → l < k → p l + k = fr_S N e + l) → ∀ ch, (∀ j, j < k → ch j = nI (fr_f N e (fr_nl p i j))) → post 1 ((nI N), f_at, (nI k), (fr_E e), a_fits, ch)) : wpY_advance post ((nI N), f_at, (nI k), (fr_E e), a_fits, a_chosen) :=
  nm_e (Exists.intro (k + 1) (fr_y_ad7 hV hk hF hic hp HN HP k (Nat.le_refl k) (fun l hl hlk => absurd hlk (by omega))))
theorem fr_y_b43 {post : SY → Prop} {J6 : Int32 → Int32 → Int32 → Int32 → (Nat → Int32) → (Nat → Int32) → (Nat → Int32) →  Prop} {k : Nat} (hV : fr_V N e) (hk1 : 1 ≤ k) (hk : k ≤ 5) (hF : fr_FT N e (N * N) a_fits) (HJ : fr_no N e k → ∀ ch, J6 (nI (k + 1)) (nI N) f_at (nI k) (fr_E e) a_fits ch) (HP : ∀ p ch, fr_fc N e k p → (∀ j, j < k → ch j = nI (fr_f N e (p j))) → post ((nI N), f_at, (nI k), (fr_E e), a_fits, ch)) : ∀ n p ch round, fr_py (fr_S N e) k p + 1 < n → round + fr_py (fr_S N e) k p < 200000 → fr_ic (fr_S N e) k p → fr_hd N e k k p → (∀ j, j < k → ch j = nI (fr_f N e (p j))) → wY_best_43 post J6 (nI k) n 1 (nI round) (nI N) f_at (nI k) (fr_E e) a_fits ch := by
  intro n
  induction n with
  | zero => intro p ch round hn; exact absurd hn (Nat.not_lt_zero _)
  | succ n ih =>
    intro p ch round hn hr hic hhd hch
    refine br_f (nI_ge (b := 200000) (by omega) (by decide)) (br_f fr_01 (fr_y_cv (g := fr_g N e p) hV hk hF (fun i hi => ⟨hch i hi, (fr_f_ok (hic.2 i hi)).1⟩) (fun z => br_f fr_01 (HP p ch ⟨hic, z, hhd⟩ hch)) (fun z => br_t rfl (fr_y_ad hV hk1 hk hF hic hch (fun ht => nm_r (nI_1 round) ?_) (fun i hi hti htl ch' hch' => nm_r (nI_1 round) ?_)))))
    · have hno := fr_hd_last hhd z ht
      obtain ⟨n', rfl⟩ : ∃ n', n = n' + 1 := ⟨n - 1, by omega⟩
      exact br_c (fun _ => nm_r (nI_1 k) (HJ hno ch)) (fun _ => br_t rfl (nm_r (nI_1 k) (HJ hno ch)))
    · have hd := fr_py_nl hi hti
      exact ih (fr_nl p i) ch' (round + 1) (by omega) (by omega) (fr_nl_ic hic hi hti) (fr_hd_nl hhd z hi htl) hch'
theorem fr_y_b6 {post : SY → Prop} (hV : fr_V N e) (hF : fr_FT N e (N * N) a_fits) (HP : ∀ k p ch, fr_FC N e k p → (∀ j, j < k → ch j = nI (fr_f N e (p j))) → post ((nI N), f_at, (nI k), (fr_E e), a_fits, ch)) : ∀ d k, k + d = N + 1 → 1 ≤ k → (∀ k', 1 ≤ k' → k' < k → fr_no N e k') → ∀ sz ch, wY_best_6 post (d + 1) (nI k) (nI N) f_at sz (fr_E e) a_fits ch := by
  have h5 := hV.2.1
  have h2 := hV.1
  have hS := fr_S31 e h5
  have hN1 : 1 < 2 ^ N := Nat.one_lt_two_pow (by omega)
  intro d
  induction d with
  | zero =>
    intro k hk _ hno
    exact absurd (hno N (by omega) (by omega)) (fr_exN hV)
  | succ d ih =>
    intro k hk hk1 hno sz ch
    have HJ : fr_no N e k → ∀ ch, wY_best_6 post (d + 1) (nI (k + 1)) (nI N) f_at (nI k) (fr_E e) a_fits ch := fun hn ch => ih (k + 1) (by omega) (by omega) (fun k' a1 a2 => by
      by_cases hkk : k' = k
      · rw [hkk]
        exact hn
      · exact hno k' a1 (by omega)) _ _
    have hps1 := fr_ps1 N e
    refine br_f (nI_nlt (by omega) (by omega)) (br_f (nI_nlt (a := 5) (by omega) (by decide)) (fr_y_rm (c := 0) hV (by omega) (by omega) hF (fun z => br_f fr_01 (fr_y_pl (i := 0) (c := 1) hV (by omega) (by omega) (Nat.le_refl 1) hN1 (by omega) hF (fun ch' _ hch' => ?_))) (fun z => br_t rfl ?_)))
    · have z2 : k + fr_ps N e 1 ≤ fr_S N e := z
      have hic : fr_ic (fr_S N e) k (fun j => j) := ⟨fun i _ => Nat.lt_succ_self i, fun i hi => by show i < fr_S N e; omega⟩
      have hpy := fr_py_0 (S := fr_S N e) (k := k) (p := fun j => j) hk1 (by omega) hS (by omega) (fun _ _ => rfl)
      refine Exists.intro (fr_py (fr_S N e) k (fun j => j) + 2) (fr_y_b43 hV hk1 (by omega) hF HJ (fun p ch hfc hch => HP k p ch ⟨hk1, by omega, hno, hfc⟩ hch) _ (fun j => j) ch' 0 (by omega) (by omega) hic (fr_hd_first (fun _ _ => rfl)) (fun j hj => ?_))
      have h6 := hch' j (by omega)
      rw [hps1, Nat.zero_add] at h6
      exact h6
    · have hn : fr_no N e k := by
        intro q hq _
        have h6 := fr_ic_le hq (i := 0) (by omega)
        have z2 : fr_S N e < k + fr_ps N e 1 := z
        omega
      exact Exists.intro 1 (br_c (fun _ => nm_r (nI_1 k) (HJ hn _)) (fun _ => br_t rfl (nm_r (nI_1 k) (HJ hn _))))
theorem fr_y_best {post : SY → Prop} (hV : fr_V N e) (HP : ∀ k p fi ch, fr_FC N e k p → (∀ j, j < k → ch j = nI (fr_f N e (p j))) → post ((nI N), f_at, (nI k), (fr_E e), fi, ch)) : wpY_best post ((nI N), f_at, f_size, (fr_E e), a_fits, a_chosen) :=
  fr_y_tb hV (fun fi hF => Exists.intro (N + 1) (fr_y_b6 hV hF (fun k p ch h1 h2 => HP k p fi ch h1 h2) N 1 (by omega) (Nat.le_refl 1) (fun k' a b => absurd b (by omega)) _ _))
end
end
section
/-! a given cover; the least word; ranges of arguments -/
def fr_T3 (a b c x : Nat) : Prop := x = a ∨ x = b ∨ x = c
def fr_P3 (a b c : Nat) (x : Nat) : Bool := decide (0 < x ∧ (x = a ∨ x = b ∨ x = c))
theorem fr_P3_iff {a b c x : Nat} : fr_P3 a b c x = true ↔ (0 < x ∧ fr_T3 a b c x) := decide_eq_true_iff
def fr_lt1 (a n : Nat) : Nat := if a < n then 1 else 0
theorem fr_lt1_s (a n : Nat) : fr_lt1 a (n + 1) = fr_lt1 a n + (if n = a then 1 else 0) := by
  unfold fr_lt1
  by_cases h : n = a
  · rw [if_pos h, if_pos (by omega), if_neg (by omega)]
  · by_cases h2 : a < n
    · rw [if_neg h, if_pos h2, if_pos (by omega)]
    · rw [if_neg h, if_neg h2, if_neg (by omega)]
theorem fr_lt1_le (a n : Nat) : fr_lt1 a n ≤ 1 := by
  unfold fr_lt1
  by_cases h2 : a < n
  · rw [if_pos h2]; exact Nat.le_refl 1
  · rw [if_neg h2]; exact Nat.zero_le 1
theorem fr_c3 (a b c : Nat) : ∀ n, fr_cnt (fr_P3 a b c) n ≤ fr_lt1 a n + fr_lt1 b n + fr_lt1 c n := by
  intro n
  induction n with
  | zero => exact Nat.zero_le _
  | succ n ih =>
    have ea := fr_lt1_s a n
    have eb := fr_lt1_s b n
    have ec := fr_lt1_s c n
    by_cases h : fr_P3 a b c n = true
    · rw [fr_cnt_t h]
      rcases (fr_P3_iff.mp h).2 with z | z | z
      · rw [if_pos z] at ea
        omega
      · rw [if_pos z] at eb
        omega
      · rw [if_pos z] at ec
        omega
    · rw [fr_cnt_f h]
      omega
theorem fr_c33 (a b c n : Nat) : fr_cnt (fr_P3 a b c) n ≤ 3 := by
  have h1 := fr_c3 a b c n
  have h2 := fr_lt1_le a n
  have h3 := fr_lt1_le b n
  have h4 := fr_lt1_le c n
  omega
def fr_in1 (x a b c : Nat) : Prop := fr_sub x a ∨ fr_sub x b ∨ fr_sub x c
theorem fr_in1_iff {x a b c : Nat} : fr_in1 x a b c ↔ ∃ y, fr_T3 a b c y ∧ fr_sub x y := by
  constructor
  · rintro (h | h | h)
    · exact ⟨a, Or.inl rfl, h⟩
    · exact ⟨b, Or.inr (Or.inl rfl), h⟩
    · exact ⟨c, Or.inr (Or.inr rfl), h⟩
  · rintro ⟨y, (h | h | h), hs⟩
    · rw [h] at hs; exact Or.inl hs
    · rw [h] at hs; exact Or.inr (Or.inl hs)
    · rw [h] at hs; exact Or.inr (Or.inr hs)
def fr_ok3 (N : Nat) (e : Nat → Nat) (a b c i : Nat) : Prop := fr_in1 (fr_im N e a i) a b c ∧ fr_in1 (fr_im N e b i) a b c ∧ fr_in1 (fr_im N e c i) a b c
theorem fr_ok3_iff {N : Nat} {e : Nat → Nat} {a b c i : Nat} : fr_ok3 N e a b c i ↔ ∀ x, fr_T3 a b c x → ∃ y, fr_T3 a b c y ∧ fr_sub (fr_im N e x i) y := by
  constructor
  · rintro ⟨h1, h2, h3⟩ x (h | h | h)
    · rw [h]; exact fr_in1_iff.mp h1
    · rw [h]; exact fr_in1_iff.mp h2
    · rw [h]; exact fr_in1_iff.mp h3
  · intro h
    exact ⟨fr_in1_iff.mpr (h a (Or.inl rfl)), fr_in1_iff.mpr (h b (Or.inr (Or.inl rfl))), fr_in1_iff.mpr (h c (Or.inr (Or.inr rfl)))⟩
theorem fr_cov3 {N : Nat} {e : Nat → Nat} {a b c : Nat} (ha : a < 2 ^ N) (hb : b < 2 ^ N) (hc : c < 2 ^ N) (hne : ¬ (a = 0 ∧ b = 0 ∧ c = 0)) : fr_CV N e (fr_cnt (fr_P3 a b c) (2 ^ N)) (fr_enm (fr_P3 a b c) (2 ^ N)) ↔ (fr_Gd N e a = true ∧ fr_Gd N e b = true ∧ fr_Gd N e c = true ∧ ((a ||| b) ||| c) = 2 ^ N - 1 ∧ ∀ i, i < 2 → fr_ok3 N e a b c i) := by
  have hT : ∀ x, fr_T3 a b c x → x < 2 ^ N := by
    rintro x (h | h | h)
    · rw [h]; exact ha
    · rw [h]; exact hb
    · rw [h]; exact hc
  have h1 : ∀ i, i < fr_cnt (fr_P3 a b c) (2 ^ N) → fr_T3 a b c (fr_enm (fr_P3 a b c) (2 ^ N) i) := fun i hi => (fr_P3_iff.mp (fr_enm_s _ i hi).2.1).2
  have h2 : ∀ x, fr_T3 a b c x → 0 < x → ∃ i, i < fr_cnt (fr_P3 a b c) (2 ^ N) ∧ fr_enm (fr_P3 a b c) (2 ^ N) i = x := fun x hx h0 =>
    ⟨fr_cnt (fr_P3 a b c) x, fr_cnt_lt (hT x hx) (fr_P3_iff.mpr ⟨h0, hx⟩), fr_enm_c (fr_P3_iff.mpr ⟨h0, hx⟩) _ (hT x hx)⟩
  have h3 : ∃ i, i < fr_cnt (fr_P3 a b c) (2 ^ N) := by
    by_cases za : a = 0
    · by_cases zb : b = 0
      · obtain ⟨i, hi, _⟩ := h2 c (Or.inr (Or.inr rfl)) (Nat.pos_of_ne_zero (fun zc => hne ⟨za, zb, zc⟩))
        exact ⟨i, hi⟩
      · obtain ⟨i, hi, _⟩ := h2 b (Or.inr (Or.inl rfl)) (Nat.pos_of_ne_zero zb)
        exact ⟨i, hi⟩
    · obtain ⟨i, hi, _⟩ := h2 a (Or.inl rfl) (Nat.pos_of_ne_zero za)
      exact ⟨i, hi⟩
  generalize fr_cnt (fr_P3 a b c) (2 ^ N) = m at h1 h2 h3
  generalize fr_enm (fr_P3 a b c) (2 ^ N) = g at h1 h2
  have hor : fr_or g m = ((a ||| b) ||| c) := by
    apply Nat.eq_of_testBit_eq
    intro x
    have hiff : (fr_or g m).testBit x = true ↔ ((a ||| b) ||| c).testBit x = true := by
      rw [fr_or_bit, Nat.testBit_or, Nat.testBit_or, Bool.or_eq_true, Bool.or_eq_true]
      constructor
      · rintro ⟨i, hi, hx⟩
        rcases h1 i hi with z | z | z
        · rw [z] at hx; exact Or.inl (Or.inl hx)
        · rw [z] at hx; exact Or.inl (Or.inr hx)
        · rw [z] at hx; exact Or.inr hx
      · have key : ∀ y, fr_T3 a b c y → y.testBit x = true → ∃ i, i < m ∧ (g i).testBit x = true := by
          intro y hy hx
          have hy0 : 0 < y := Nat.pos_of_ne_zero (fun z => by rw [z, Nat.zero_testBit] at hx; exact absurd hx (by decide))
          obtain ⟨i, hi, he⟩ := h2 y hy hy0
          exact ⟨i, hi, by rw [he]; exact hx⟩
        rintro ((h | h) | h)
        · exact key a (Or.inl rfl) h
        · exact key b (Or.inr (Or.inl rfl)) h
        · exact key c (Or.inr (Or.inr rfl)) h
    by_cases hx : (fr_or g m).testBit x = true
    · rw [hx, hiff.mp hx]
    · rw [fr_bf hx, fr_bf (fun z => hx (hiff.mpr z))]
  constructor
  · rintro ⟨c1, c2, c3⟩
    have hG : ∀ x, fr_T3 a b c x → fr_Gd N e x = true := by
      intro x hx
      by_cases h0 : x = 0
      · rw [h0]; exact fr_Gd_0 N e
      · obtain ⟨i, hi, he⟩ := h2 x hx (Nat.pos_of_ne_zero h0)
        rw [← he]
        exact c1 i hi
    refine ⟨hG a (Or.inl rfl), hG b (Or.inr (Or.inl rfl)), hG c (Or.inr (Or.inr rfl)), by rw [← hor]; exact c2, fun i hi => fr_ok3_iff.mpr (fun x hx => ?_)⟩
    by_cases h0 : x = 0
    · refine ⟨a, Or.inl rfl, ?_⟩
      rw [h0, fr_im_0]
      exact fr_sub_0 a
    · obtain ⟨l, hl, he⟩ := h2 x hx (Nat.pos_of_ne_zero h0)
      obtain ⟨j, hj, hs⟩ := c3 l hl i hi
      rw [he] at hs
      exact ⟨g j, h1 j hj, hs⟩
  · rintro ⟨ga, gb, gc, ho, hok⟩
    refine ⟨fun i hi => ?_, by rw [hor]; exact ho, fun i hi a' ha' => ?_⟩
    · rcases h1 i hi with z | z | z
      · rw [z]; exact ga
      · rw [z]; exact gb
      · rw [z]; exact gc
    · obtain ⟨y, hy, hs⟩ := fr_ok3_iff.mp (hok a' ha') (g i) (h1 i hi)
      by_cases h0 : y = 0
      · rw [h0] at hs
        rw [fr_sub_to0 hs]
        exact ⟨i, hi, fr_sub_0 _⟩
      · obtain ⟨l, hl, he⟩ := h2 y hy (Nat.pos_of_ne_zero h0)
        exact ⟨l, hl, by rw [he]; exact hs⟩
/-! arguments within -/
def fr_ir (n : Nat) (v : Int32) : Prop := ∃ j, j < n ∧ v = nI j
theorem fr_ir_neg {n : Nat} (hn : n < 2 ^ 31) {v : Int32} (h : v < 0) : ¬ fr_ir n v := by
  rintro ⟨j, hj, rfl⟩
  exact nI_pos (by omega) h
theorem fr_ir_no {n j : Nat} (hj : j < 2 ^ 31) (hn : n < 2 ^ 31) (h : ¬ j < n) : ¬ fr_ir n (nI j) := by
  rintro ⟨i, hi, he⟩
  have := (nI_eq hj (by omega)).mp he
  omega
def fr_is (N : Nat) (v : Int32) : Prop := ∃ c, 1 ≤ c ∧ c < 2 ^ N ∧ v = nI c
theorem fr_3n (N : Nat) : 3 * (nI N + 1) = nI (3 * (N + 1)) := by
  rw [nI_1, show (3 : Int32) = nI 3 from rfl, pk_mul]
section
variable {N : Nat} {e : Nat → Nat} {f_setCount f_largestCount f_coverCount f_current f_state f_inClass : Int32} {a_level a_sets a_later a_largest a_pick a_union a_cover a_nextClass a_classOut : Nat → Int32}
theorem fr_x_isState {post : Int32 → Prop} {v : Int32} (hV : fr_V N e) (h0 : ¬ fr_ir N v → post 0) (h1 : ∀ j, j < N → v = nI j → post 1) : wpX_isState post ((nI N), f_setCount, f_largestCount, f_coverCount, f_current, f_state, f_inClass, (fr_E e), a_level, a_sets, a_later, a_largest, a_pick, a_union, a_cover, a_nextClass, a_classOut) v := by
  have h5 := hV.2.1
  by_cases h : v < 0
  · exact br_t h (h0 (fr_ir_neg (by omega) h))
  · obtain ⟨j, hj, rfl⟩ := nI_of h
    exact br_f h (fr_if (nI_leI (by omega) hj) (fun z => h0 (fr_ir_no hj (by omega) (by omega))) (fun z => h1 j (by omega) rfl))
theorem fr_x_isInput {post : Int32 → Prop} {v : Int32} (h0 : ¬ fr_ir 2 v → post 0) (h1 : ∀ j, j < 2 → v = nI j → post 1) : wpX_isInput post v := by
  by_cases z0 : v = 0
  · exact br_t z0 (h1 0 (by decide) z0)
  · by_cases z1 : v = 1
    · exact br_f z0 (br_t z1 (h1 1 (by decide) z1))
    · refine br_f z0 (br_f z1 (h0 ?_))
      rintro ⟨j, hj, rfl⟩
      have h01 : j = 0 ∨ j = 1 := by omega
      rcases h01 with rfl | rfl
      · exact z0 rfl
      · exact z1 rfl
theorem fr_x_isSet {post : Int32 → Prop} {v : Int32} (hV : fr_V N e) (h0 : ¬ fr_is N v → post 0) (h1 : ∀ c, 1 ≤ c → c < 2 ^ N → v = nI c → post 1) : wpX_isSet post ((nI N), f_setCount, f_largestCount, f_coverCount, f_current, f_state, f_inClass, (fr_E e), a_level, a_sets, a_later, a_largest, a_pick, a_union, a_cover, a_nextClass, a_classOut) v := by
  have h5 := hV.2.1
  have h32 := fr_p32 h5
  by_cases h : v < 0
  · refine br_t (Int32.lt_trans h (by decide)) (h0 ?_)
    rintro ⟨c, c1, c2, rfl⟩
    exact nI_pos (by omega) h
  · obtain ⟨j, hj, rfl⟩ := nI_of h
    refine fr_if (nI_ltI (b := 1) hj (by decide)) (fun z => h0 ?_) (fun z => ?_)
    · rintro ⟨c, c1, c2, he⟩
      have := (nI_eq hj (by omega)).mp he
      omega
    · rw [fr_shT N (by omega)]
      refine fr_if (nI_leI (by omega) hj) (fun y => h0 ?_) (fun y => h1 j (by omega) (by omega) rfl)
      rintro ⟨c, c1, c2, he⟩
      have := (nI_eq hj (by omega)).mp he
      omega
theorem fr_x_inOne {post : Int32 → Prop} {x a b c : Nat} (hx : x < 32) (ha : a < 32) (hb : b < 32) (hc : c < 32) (h1 : fr_in1 x a b c → post 1) (h0 : ¬ fr_in1 x a b c → post 0) : wpX_inOne post (nI x) (nI a) (nI b) (nI c) :=
  fr_if (fr_subX x hx a ha) (fun z => h1 (Or.inl z)) (fun z1 => fr_if (fr_subX x hx b hb) (fun z => h1 (Or.inr (Or.inl z))) (fun z2 => fr_if (fr_subX x hx c hc) (fun z => h1 (Or.inr (Or.inr z))) (fun z3 => h0 (fun y => y.elim z1 (fun y => y.elim z2 z3)))))
theorem fr_x_cv98 {post : Int32 → SX → Prop} {a b c : Nat} (hV : fr_V N e) (ha : a < 32) (hb : b < 32) (hc : c < 32) (h1 : (∀ i, i < 2 → fr_ok3 N e a b c i) → post 1 ((nI N), f_setCount, f_largestCount, f_coverCount, f_current, f_state, f_inClass, (fr_E e), a_level, a_sets, a_later, a_largest, a_pick, a_union, a_cover, a_nextClass, a_classOut)) (h0 : ¬ (∀ i, i < 2 → fr_ok3 N e a b c i) → post 0 ((nI N), f_setCount, f_largestCount, f_coverCount, f_current, f_state, f_inClass, (fr_E e), a_level, a_sets, a_later, a_largest, a_pick, a_union, a_cover, a_nextClass, a_classOut)) : ∀ d i, i + d = 2 → ((∀ j, j < i → fr_ok3 N e a b c j) → wX_isCover_98 post (nI a) (nI b) (nI c) (nI N) f_setCount f_largestCount f_coverCount f_current f_state f_inClass (fr_E e) a_level a_sets a_later a_largest a_pick a_union a_cover a_nextClass a_classOut (d + 1) 1 (nI i)) ∧ (¬ (∀ j, j < 2 → fr_ok3 N e a b c j) → wX_isCover_98 post (nI a) (nI b) (nI c) (nI N) f_setCount f_largestCount f_coverCount f_current f_state f_inClass (fr_E e) a_level a_sets a_later a_largest a_pick a_union a_cover a_nextClass a_classOut (d + 1) 0 (nI i)) := by
  intro d
  induction d with
  | zero =>
    intro i hi
    have hi' : i = 2 := by omega
    subst hi'
    exact ⟨fun h => br_t (by decide) (br_f fr_01 (h1 h)), fun h => br_t (by decide) (br_t rfl (h0 h))⟩
  | succ d ih =>
    intro i hi
    obtain ⟨ih1, ih0⟩ := ih (i + 1) (by omega)
    have i1 := fr_im32 hV a i
    have i2 := fr_im32 hV b i
    have i3 := fr_im32 hV c i
    constructor
    · intro h
      refine br_f (nI_ge (b := 2) (by omega) (by decide)) (fr_x_im hV ha (by omega) (fr_x_im hV hb (by omega) (fr_x_im hV hc (by omega) (br_f fr_01 (fr_x_inOne i1 ha hb hc (fun z1 => br_f fr_01 (fr_x_inOne i2 ha hb hc (fun z2 => br_f fr_01 (fr_x_inOne i3 ha hb hc (fun z3 => br_f fr_01 (nm_r (nI_1 i) (ih1 (fun j hj => ?_)))) (fun z3 => br_t rfl (nm_r (nI_1 i) (ih0 (fun y => z3 (y i (by omega)).2.2)))))) (fun z2 => br_t rfl (nm_r (nI_1 i) (ih0 (fun y => z2 (y i (by omega)).2.1)))))) (fun z1 => br_t rfl (nm_r (nI_1 i) (ih0 (fun y => z1 (y i (by omega)).1)))))))))
      by_cases hji : j = i
      · rw [hji]
        exact ⟨z1, z2, z3⟩
      · exact h j (by omega)
    · intro h
      exact br_f (nI_ge (b := 2) (by omega) (by decide)) (fr_x_im hV ha (by omega) (fr_x_im hV hb (by omega) (fr_x_im hV hc (by omega) (br_t rfl (nm_r (nI_1 i) (ih0 h))))))
theorem fr_x_sw61 {post : Int32 → SX → Prop} (hV : fr_V N e) (hL : fr_LV N e 25 a_level) : ∀ L p q w, p < N → q < N → L < 25 → fr_dl e L p q → post (nI (w * 2 ^ (L + 1) + fr_lw e L p q)) ((nI N), f_setCount, f_largestCount, f_coverCount, f_current, f_state, f_inClass, (fr_E e), a_level, a_sets, a_later, a_largest, a_pick, a_union, a_cover, a_nextClass, a_classOut) → wX_splitWord_61 post (nI N) f_setCount f_largestCount f_coverCount f_current f_state f_inClass (fr_E e) a_level a_sets a_later a_largest a_pick a_union a_cover a_nextClass a_classOut (L + 2) (nI w) (nI p) (nI q) (nI (L + 1)) := by
  have h5 := hV.2.1
  intro L
  induction L with
  | zero =>
    intro p q w hp hq _ hd h
    have hu : fr_lw e 0 p q = if fr_od e 0 p q = true then 0 else 1 := rfl
    have hend : ∀ a, a < 2 → fr_lw e 0 p q = a → wX_splitWord_85 post (wX_splitWord_61 post (nI N) f_setCount f_largestCount f_coverCount f_current f_state f_inClass (fr_E e) a_level a_sets a_later a_largest a_pick a_union a_cover a_nextClass a_classOut 1) (nI w) (nI p) (nI q) (nI (0 + 1)) (nI a) (nI N) f_setCount f_largestCount f_coverCount f_current f_state f_inClass (fr_E e) a_level a_sets a_later a_largest a_pick a_union a_cover a_nextClass a_classOut := by
      intro a ha hw
      refine nm_r (fr_ix2 w a) (br_t (by decide) (nm_r (pk_m1 0) (br_t (by decide) ?_)))
      rw [hw, show w * 2 ^ (0 + 1) + a = 2 * w + a from by omega] at h
      exact h
    refine br_f (by decide) (fr_x_splits (a := 0) (L := 0) hV hp hq (by decide) (by decide) (fun z => br_f fr_01 (hend 0 (by decide) ?_)) (fun z => br_t rfl (hend 1 (by decide) ?_)))
    · have z2 : fr_od e 0 p q = true := fr_sx_0.mpr z
      rw [hu, if_pos z2]
    · have z2 : ¬ fr_od e 0 p q = true := fun y => z (fr_sx_0.mp y)
      rw [hu, if_neg z2]
  | succ L ih =>
    intro p q w hp hq hL25 hd h
    have hu : fr_lw e (L + 1) p q = if fr_stp (fr_ex e L) e 0 p q = true then fr_lw e L (fr_nx e p 0 - 1) (fr_nx e q 0 - 1) else 2 ^ (L + 1) + fr_lw e L (fr_nx e p 1 - 1) (fr_nx e q 1 - 1) := rfl
    have hx : fr_SP e a_level (L + 1) 0 p q ↔ fr_sx e (L + 1) 0 p q = true := by
      refine fr_SPx hV (by decide) hd.2 (fun p' q' b hp' hq' hb => ?_)
      rw [hL p' q' hp' hq', nI_eq (fr_lvn (by decide)) (by omega), hb, fr_lvl_eq (by decide) (by omega)]
      exact ⟨fun z => z.2, fun z => ⟨by omega, z⟩⟩
    have hstep : ∀ a, a < 2 → fr_sx e (L + 1) a p q = true → w * 2 ^ (L + 1 + 1) + fr_lw e (L + 1) p q = (2 * w + a) * 2 ^ (L + 1) + fr_lw e L (fr_nx e p a - 1) (fr_nx e q a - 1) → wX_splitWord_85 post (wX_splitWord_61 post (nI N) f_setCount f_largestCount f_coverCount f_current f_state f_inClass (fr_E e) a_level a_sets a_later a_largest a_pick a_union a_cover a_nextClass a_classOut (L + 2)) (nI w) (nI p) (nI q) (nI (L + 1 + 1)) (nI a) (nI N) f_setCount f_largestCount f_coverCount f_current f_state f_inClass (fr_E e) a_level a_sets a_later a_largest a_pick a_union a_cover a_nextClass a_classOut := by
      intro a ha hsx hw
      obtain ⟨n1, n2, n3⟩ := fr_dl_next ha hd hsx
      have m1 := fr_nx_le hV p a
      have m2 := fr_nx_le hV q a
      have hle : ¬ nI (L + 1 + 1) ≤ 1 := nI_ge (b := L + 1 + 1) (a := 1) (by omega) (by omega)
      refine nm_r (fr_ix2 w a) (br_f hle (fr_x_next hV (by omega) ha (fr_x_next hV (by omega) ha (nm_r (pk_m1 (L + 1)) ?_))))
      rw [fr_pr n1, fr_pr n2]
      rw [hw] at h
      exact ih _ _ _ (by omega) (by omega) (by omega) n3 h
    have hpw : w * 2 ^ (L + 1 + 1) = 2 * w * 2 ^ (L + 1) := by
      rw [Nat.pow_succ 2 (L + 1), Nat.mul_comm (2 ^ (L + 1)) 2, ← Nat.mul_assoc, Nat.mul_comm w 2]
    refine br_f (nI_nle (by omega) (by omega)) (fr_x_splits (a := 0) (L := L + 1) hV hp hq (by decide) (by omega) (fun z => br_f fr_01 (hstep 0 (by decide) (hx.mp z) ?_)) (fun z => br_t rfl (hstep 1 (by decide) ?_ ?_)))
    · have z2 : fr_stp (fr_ex e L) e 0 p q = true := hx.mp z
      rw [hu, if_pos z2, hpw, Nat.add_zero (2 * w)]
    · obtain ⟨a, ha, hw⟩ := fr_ex_to hd.1
      have h01 : a = 0 ∨ a = 1 := by omega
      rcases h01 with rfl | rfl
      · exact absurd (hx.mpr hw) z
      · exact hw
    · have z2 : ¬ fr_stp (fr_ex e L) e 0 p q = true := fun y => z (hx.mpr y)
      rw [hu, if_neg z2, hpw, Nat.add_mul, Nat.one_mul, Nat.add_assoc]
end
section
variable {N : Nat} {e : Nat → Nat} {f_at f_size : Int32} {a_fits a_chosen : Nat → Int32}
theorem fr_y_bs_t {post : Int32 → Prop} {j : Nat} (hV : fr_V N e) (hj : j < N) (h : post 0) : wpY_badState post ((nI N), f_at, f_size, (fr_E e), a_fits, a_chosen) (nI j) := by
  have h5 := hV.2.1
  exact br_f (nI_pos (by omega)) (br_f (nI_ge (by omega) (by omega)) (br_t (nI_lt (b := 5) (by omega) (by decide)) h))
theorem fr_y_bs_f {post : Int32 → Prop} {v : Int32} (hV : fr_V N e) (hv : ¬ fr_ir N v) (h : post 1) : wpY_badState post ((nI N), f_at, f_size, (fr_E e), a_fits, a_chosen) v := by
  have h5 := hV.2.1
  by_cases hz : v < 0
  · exact br_t hz h
  · obtain ⟨j, hj, rfl⟩ := nI_of hz
    exact br_f hz (br_t (nI_le (Nat.le_of_not_lt (fun y => hv ⟨j, y, rfl⟩)) hj) h)
theorem fr_y_bi_t {post : Int32 → Prop} {j : Nat} (hj : j < 2) (h : post 0) : wpY_badInput post ((nI N), f_at, f_size, (fr_E e), a_fits, a_chosen) (nI j) :=
  br_f (nI_pos (by omega)) (br_t (nI_le (b := 1) (by omega) (by decide)) h)
theorem fr_y_bi_f {post : Int32 → Prop} {v : Int32} (hv : ¬ fr_ir 2 v) (h : post 1) : wpY_badInput post ((nI N), f_at, f_size, (fr_E e), a_fits, a_chosen) v := by
  by_cases hz : v < 0
  · exact br_t hz h
  · obtain ⟨j, hj, rfl⟩ := nI_of hz
    have hj2 : 2 ≤ j := Nat.le_of_not_lt (fun y => hv ⟨j, y, rfl⟩)
    exact br_f hz (br_f (nI_ge (a := 1) (by omega) hj) h)
theorem fr_y_st_t {post : Int32 → Prop} {c : Nat} (hV : fr_V N e) (h1 : 1 ≤ c) (h2 : c < 2 ^ N) (h : post 0) : wpY_badSet post ((nI N), f_at, f_size, (fr_E e), a_fits, a_chosen) (nI c) := by
  have h5 := hV.2.1
  have h32 := fr_p32 h5
  refine br_f (nI_nlt (b := 1) h1 (by omega)) ?_
  rw [fr_shT N (by omega)]
  exact br_t (nI_lt h2 (by omega)) h
theorem fr_y_st_f {post : Int32 → Prop} {v : Int32} (hV : fr_V N e) (hv : ¬ fr_is N v) (h : post 1) : wpY_badSet post ((nI N), f_at, f_size, (fr_E e), a_fits, a_chosen) v := by
  have h5 := hV.2.1
  have h32 := fr_p32 h5
  by_cases hz : v < 0
  · exact br_t (Int32.lt_trans hz (by decide)) h
  · obtain ⟨j, hj, rfl⟩ := nI_of hz
    refine fr_if (nI_ltI (b := 1) hj (by decide)) (fun _ => h) (fun z => ?_)
    rw [fr_shT N (by omega)]
    exact br_f (nI_nlt (Nat.le_of_not_lt (fun y => hv ⟨j, by omega, y, rfl⟩)) hj) h
theorem fr_y_out_t {post : Int32 → Prop} {c : Nat} (hV : fr_V N e) (h2 : c < 2 ^ N) (h : post 0) : wpY_outside post ((nI N), f_at, f_size, (fr_E e), a_fits, a_chosen) (nI c) := by
  have h5 := hV.2.1
  have h32 := fr_p32 h5
  refine br_f (nI_pos (by omega)) ?_
  rw [fr_shT N (by omega), fr_full N (by omega)]
  exact br_t (nI_le (by omega) (by omega)) h
theorem fr_y_out_f {post : Int32 → Prop} {v : Int32} (hV : fr_V N e) (hv : ¬ fr_ir (2 ^ N) v) (h : post 1) : wpY_outside post ((nI N), f_at, f_size, (fr_E e), a_fits, a_chosen) v := by
  have h5 := hV.2.1
  have h32 := fr_p32 h5
  have hp := Nat.two_pow_pos N
  by_cases hz : v < 0
  · exact br_t hz h
  · obtain ⟨j, hj, rfl⟩ := nI_of hz
    have hj2 : 2 ^ N ≤ j := Nat.le_of_not_lt (fun y => hv ⟨j, y, rfl⟩)
    refine br_f hz ?_
    rw [fr_shT N (by omega), fr_full N (by omega)]
    exact br_f (nI_ge (by omega) hj) h
theorem fr_y_cv52 {post : Int32 → SY → Prop} {a b c : Nat} (hV : fr_V N e) (ha : a < 2 ^ N) (hb : b < 2 ^ N) (hc : c < 2 ^ N) (hF : fr_FT N e (N * N) a_fits) (h1 : fr_CV N e (fr_cnt (fr_P3 a b c) (2 ^ N)) (fr_enm (fr_P3 a b c) (2 ^ N)) → ∀ sz ch, post 1 ((nI N), f_at, sz, (fr_E e), a_fits, ch)) (h0 : ¬ fr_CV N e (fr_cnt (fr_P3 a b c) (2 ^ N)) (fr_enm (fr_P3 a b c) (2 ^ N)) → ∀ sz ch, post 0 ((nI N), f_at, sz, (fr_E e), a_fits, ch)) : ∀ d x, x + d = 2 ^ N → 1 ≤ x → ∀ ch : Nat → Int32, (∀ i, i < fr_cnt (fr_P3 a b c) x → ch i = nI (fr_enm (fr_P3 a b c) x i)) → wY_isCover_52 post (nI a) (nI b) (nI c) (nI N) f_at (d + 1) (nI x) (nI (fr_cnt (fr_P3 a b c) x)) (fr_E e) a_fits ch := by
  have h5 := hV.2.1
  have h32 := fr_p32 h5
  intro d
  induction d with
  | zero =>
    intro x hx _ ch h
    have hx' : x = 2 ^ N := by omega
    subst hx'
    have h3 := fr_c33 a b c (2 ^ N)
    exact br_t (by rw [fr_shT N (by omega)]; exact Int32.le_refl _) (fr_y_cv hV (by omega) hF (fun i hi => ⟨h i hi, (fr_enm_s _ i hi).1⟩) (fun z => br_f fr_01 (h1 z _ _)) (fun z => br_t rfl (h0 z _ _)))
  | succ d ih =>
    intro x hx hx1 ch h
    have h3 := fr_c33 a b c x
    have h81 : fr_T3 a b c x → wY_isCover_81 post (wY_isCover_52 post (nI a) (nI b) (nI c) (nI N) f_at (d + 1)) (nI a) (nI b) (nI c) (nI x) (nI N) f_at (nI (fr_cnt (fr_P3 a b c) x)) (fr_E e) a_fits ch := by
      intro z
      have hP : fr_P3 a b c x = true := fr_P3_iff.mpr ⟨hx1, z⟩
      have e1 : fr_cnt (fr_P3 a b c) (x + 1) = fr_cnt (fr_P3 a b c) x + 1 := fr_cnt_t hP
      refine br_f (nI_ge (b := 5) (by omega) (by decide)) ⟨vp_in_nI (by omega) (by decide), nm_r (e' := upd ch (fr_cnt (fr_P3 a b c) x) (nI x)) (by rw [nI_clamp (by omega)]) (nm_r (nI_1 _) (nm_r (nI_1 x) ?_))⟩
      rw [← e1]
      refine ih (x + 1) (by omega) (by omega) _ (fun i hi => ?_)
      have hu : fr_enm (fr_P3 a b c) (x + 1) i = if fr_P3 a b c x = true ∧ i = fr_cnt (fr_P3 a b c) x then x else fr_enm (fr_P3 a b c) x i := rfl
      by_cases hic : i = fr_cnt (fr_P3 a b c) x
      · rw [hu, if_pos ⟨hP, hic⟩, hic]
        exact pk_us
      · rw [hu, if_neg (fun y => hic y.2), pk_un hic]
        exact h i (by omega)
    refine br_f (by rw [fr_shT N (by omega)]; exact nI_ge (by omega) (by omega)) (fr_if (nI_eq (by omega) (by omega)) (fun z => h81 (Or.inl z)) (fun z1 => fr_if (nI_eq (by omega) (by omega)) (fun z => h81 (Or.inr (Or.inl z))) (fun z2 => fr_if (nI_eq (by omega) (by omega)) (fun z => h81 (Or.inr (Or.inr z))) (fun z3 => nm_r (nI_1 x) ?_))))
    have hP : ¬ fr_P3 a b c x = true := fun y => (fr_P3_iff.mp y).2.elim z1 (fun w => w.elim z2 z3)
    have e1 : fr_cnt (fr_P3 a b c) (x + 1) = fr_cnt (fr_P3 a b c) x := fr_cnt_f hP
    rw [← e1]
    refine ih (x + 1) (by omega) (by omega) _ (fun i hi => ?_)
    have hu : fr_enm (fr_P3 a b c) (x + 1) i = if fr_P3 a b c x = true ∧ i = fr_cnt (fr_P3 a b c) x then x else fr_enm (fr_P3 a b c) x i := rfl
    rw [hu, if_neg (fun y => hP y.1)]
    exact h i (by omega)
theorem fr_y_cv40 {post : Int32 → SY → Prop} {a b c : Nat} (hV : fr_V N e) (ha : a < 2 ^ N) (hb : b < 2 ^ N) (hc : c < 2 ^ N) (h1 : fr_CV N e (fr_cnt (fr_P3 a b c) (2 ^ N)) (fr_enm (fr_P3 a b c) (2 ^ N)) → ∀ sz fi ch, post 1 ((nI N), f_at, sz, (fr_E e), fi, ch)) (h0 : ¬ fr_CV N e (fr_cnt (fr_P3 a b c) (2 ^ N)) (fr_enm (fr_P3 a b c) (2 ^ N)) → ∀ sz fi ch, post 0 ((nI N), f_at, sz, (fr_E e), fi, ch)) : wY_isCover_40 post (nI a) (nI b) (nI c) (nI N) f_at f_size (fr_E e) a_fits a_chosen := by
  have hp := Nat.two_pow_pos N
  unfold wY_isCover_40
  refine fr_y_tb hV (fun fi hF => ?_)
  have hz : fr_cnt (fr_P3 a b c) 1 = 0 := fr_cnt_f (fun y => absurd (fr_P3_iff.mp y).1 (by decide))
  have h := fr_y_cv52 (f_at := f_at) hV ha hb hc hF (fun z sz ch => h1 z sz fi ch) (fun z sz ch => h0 z sz fi ch) (2 ^ N - 1) 1 (by omega) (Nat.le_refl 1) a_chosen (fun i hi => by rw [hz] at hi; exact absurd hi (Nat.not_lt_zero i))
  rw [hz] at h
  exact Exists.intro _ h
end
end
section
/-! the relation and what is owed -/
/-- one machine, one run's state; the component's tables, where they are current, are the machine's -/
def i_Rel (_ : Nat) (u : SX) (v : SY) : Prop := match u, v with
  | (f_n, f_setCount, f_largestCount, f_coverCount, f_current, f_state, f_inClass, a_entries, a_level, a_sets, a_later, a_largest, a_pick, a_union, a_cover, a_nextClass, a_classOut), (g_n, g_at, _, a_entry, _, _) => ∃ (N : Nat) (e : Nat → Nat) (s0 : Nat), f_n = nI N ∧ g_n = nI N ∧ f_state = nI s0 - 1 ∧ g_at = nI s0 - 1 ∧ a_entries = fr_E e ∧ a_entry = fr_E e ∧ fr_V N e ∧ s0 ≤ N ∧ ((f_current = 0 ∧ s0 = 1) ∨ (f_current = 1 ∧ fr_TB N e s0 f_largestCount f_coverCount f_inClass a_level a_largest a_cover a_nextClass a_classOut))
theorem fr_mk {k N : Nat} {e : Nat → Nat} {s0 : Nat} {f_setCount f_largestCount f_coverCount f_current f_state f_inClass : Int32} {a_level a_sets a_later a_largest a_pick a_union a_cover a_nextClass a_classOut : Nat → Int32} {f_at f_size : Int32} {a_fits a_chosen : Nat → Int32} (hs : f_state = nI s0 - 1) (ha : f_at = nI s0 - 1) (hV : fr_V N e) (h0 : s0 ≤ N) (h : (f_current = 0 ∧ s0 = 1) ∨ (f_current = 1 ∧ fr_TB N e s0 f_largestCount f_coverCount f_inClass a_level a_largest a_cover a_nextClass a_classOut)) : i_Rel k ((nI N), f_setCount, f_largestCount, f_coverCount, f_current, f_state, f_inClass, (fr_E e), a_level, a_sets, a_later, a_largest, a_pick, a_union, a_cover, a_nextClass, a_classOut) ((nI N), f_at, f_size, (fr_E e), a_fits, a_chosen) := ⟨N, e, s0, rfl, rfl, hs, ha, rfl, rfl, hV, h0, h⟩
theorem fr_el {k : Nat} {u : SX} {v : SY} {P : SX → SY → Prop} (h : ∀ (N : Nat) (e : Nat → Nat) (s0 : Nat) (f_setCount f_largestCount f_coverCount f_current f_inClass : Int32) (a_level a_sets a_later a_largest a_pick a_union a_cover a_nextClass a_classOut : Nat → Int32) (f_size : Int32) (a_fits a_chosen : Nat → Int32), fr_V N e → s0 ≤ N → ((f_current = 0 ∧ s0 = 1) ∨ (f_current = 1 ∧ fr_TB N e s0 f_largestCount f_coverCount f_inClass a_level a_largest a_cover a_nextClass a_classOut)) → P ((nI N), f_setCount, f_largestCount, f_coverCount, f_current, (nI s0 - 1), f_inClass, (fr_E e), a_level, a_sets, a_later, a_largest, a_pick, a_union, a_cover, a_nextClass, a_classOut) ((nI N), (nI s0 - 1), f_size, (fr_E e), a_fits, a_chosen)) (I : i_Rel k u v) : P u v := by
  obtain ⟨f_n, f_setCount, f_largestCount, f_coverCount, f_current, f_state, f_inClass, a_entries, a_level, a_sets, a_later, a_largest, a_pick, a_union, a_cover, a_nextClass, a_classOut⟩ := u
  obtain ⟨g_n, g_at, f_size, a_entry, a_fits, a_chosen⟩ := v
  obtain ⟨N, e, s0, h1, h2, h3, h4, h5, h6, hV, h0, hI⟩ := I
  subst h1
  subst h2
  subst h3
  subst h4
  subst h5
  subst h6
  exact h N e s0 _ _ _ _ _ _ _ _ _ _ _ _ _ _ _ _ _ hV h0 hI
theorem i_up {k : Nat} {u : SX} {v : SY} (h : i_Rel k u v) : i_Rel (k + 4) u v := h
theorem fr_V0 {N : Nat} (h2 : 2 ≤ N) (h5 : N ≤ 5) : fr_V N (fun _ => 0) := ⟨h2, h5, fun _ => by show 0 < 3 * (N + 1); omega⟩
theorem fr_R0 {N : Nat} (h2 : 2 ≤ N) (h5 : N ≤ 5) : i_Rel 1 (nI N, 0, 0, 0, 0, 0, 0, (fun _ => 0), (fun _ => 0), (fun _ => 0), (fun _ => 0), (fun _ => 0), (fun _ => 0), (fun _ => 0), (fun _ => 0), (fun _ => 0), (fun _ => 0)) (nI N, 0, 0, (fun _ => 0), (fun _ => 0), (fun _ => 0)) :=
  ⟨N, fun _ => 0, 1, rfl, rfl, by decide, by decide, rfl, rfl, fr_V0 h2 h5, by omega, Or.inl ⟨rfl, rfl⟩⟩
theorem i_vc0 (k0 : Int32) : wpX_init (fun u => wpY_init (fun v => i_Rel 1 u v) k0) k0 := by
  by_cases h2 : 2 ≤ k0
  · have hp : ¬ k0 < 0 := fun z => absurd (Int32.lt_of_le_of_lt h2 z) (by decide)
    obtain ⟨j, hj, rfl⟩ := nI_of hp
    have hj2 : 2 ≤ j := (nI_leI (a := 2) (by decide) hj).mp h2
    by_cases h5 : nI j ≤ 5
    · have hj5 : j ≤ 5 := (nI_leI (b := 5) hj (by decide)).mp h5
      exact br_t h2 (br_t h5 (br_t h2 (br_t h5 (fr_R0 hj2 hj5))))
    · exact br_t h2 (br_f h5 (br_t h2 (br_f h5 (fr_R0 (N := 5) (by decide) (by decide)))))
  · exact br_f h2 (br_t (by decide) (br_f h2 (fr_R0 (N := 2) (by decide) (by decide))))
theorem i_vc_states {k : Nat} {u : SX} {v : SY} (I : i_Rel k u v) (hk : k + 4 ≤ 2049) : wpX_states (fun r => wpY_states (fun r' => r' = r ∧ i_Rel (k + 4) u v) v) u := by
  refine fr_el (P := fun u v => wpX_states (fun r => wpY_states (fun r' => r' = r ∧ i_Rel (k + 4) u v) v) u) ?_ I
  intro N e s0 f_setCount f_largestCount f_coverCount f_current f_inClass a_level a_sets a_later a_largest a_pick a_union a_cover a_nextClass a_classOut f_size a_fits a_chosen hV h0 hI
  exact ⟨rfl, fr_mk rfl rfl hV h0 hI⟩
theorem fr_E_u (e : Nat → Nat) (j w : Nat) : upd (fr_E e) j (nI w) = fr_E (fr_u e j w) := by
  funext i
  by_cases h : i = j
  · rw [h, pk_us]
    show nI w = nI (fr_u e j w j)
    rw [fr_us]
  · rw [pk_un h]
    show nI (e i) = nI (fr_u e j w i)
    rw [fr_un h]
theorem fr_V_u {N : Nat} {e : Nat → Nat} {j w : Nat} (hV : fr_V N e) (hw : w < 3 * (N + 1)) : fr_V N (fr_u e j w) := by
  refine ⟨hV.1, hV.2.1, fun i => ?_⟩
  by_cases h : i = j
  · rw [h, fr_us]
    exact hw
  · rw [fr_un h]
    exact hV.2.2 i
theorem i_vc_set {k : Nat} {u : SX} {v : SY} (I : i_Rel k u v) (hk : k + 4 ≤ 2049) (v1 : Int32) (v2 : Int32) (v3 : Int32) : wpX_set (fun r u' => wpY_set (fun r' v' => r' = r ∧ i_Rel (k + 4) u' v') v v1 v2 v3) u v1 v2 v3 := by
  refine fr_el (P := fun u v => wpX_set (fun r u' => wpY_set (fun r' v' => r' = r ∧ i_Rel (k + 4) u' v') v v1 v2 v3) u v1 v2 v3) ?_ I
  intro N e s0 f_setCount f_largestCount f_coverCount f_current f_inClass a_level a_sets a_later a_largest a_pick a_union a_cover a_nextClass a_classOut f_size a_fits a_chosen hV h0 hI
  have h2 := hV.1
  have h5 := hV.2.1
  have M := fr_mk (k := k + 4) (N := N) (e := e) (s0 := s0) (f_setCount := f_setCount) (f_current := f_current) (a_sets := a_sets) (a_later := a_later) (a_pick := a_pick) (a_union := a_union) (f_size := f_size) (a_fits := a_fits) (a_chosen := a_chosen) rfl rfl hV h0 hI
  unfold wpX_set
  dsimp only
  refine fr_x_isState hV (fun hn => br_t rfl ?_) (fun s hs es => br_f fr_01 (fr_x_isInput (fun hn => br_t rfl ?_) (fun a ha ea => br_f fr_01 ?_)))
  · unfold wpY_set
    dsimp only
    exact fr_y_bs_f hV hn (br_f fr_01 ⟨rfl, M⟩)
  · subst es
    unfold wpY_set
    dsimp only
    exact fr_y_bs_t hV hs (br_t rfl (fr_y_bi_f hn (br_f fr_01 ⟨rfl, M⟩)))
  · subst es
    subst ea
    by_cases hz : v3 < 0
    · refine br_t hz ?_
      unfold wpY_set
      dsimp only
      exact fr_y_bs_t hV hs (br_t rfl (fr_y_bi_t ha (br_t rfl (br_t hz ⟨rfl, M⟩))))
    · obtain ⟨w, hw, rfl⟩ := nI_of hz
      refine br_f hz ?_
      have hc : (2 * nI s + nI a).toNatClampNeg = 2 * s + a := by rw [fr_ix2]; exact nI_clamp (by omega)
      have hin : vp_in (2 * nI s + nI a) 10 := by rw [fr_ix2]; exact vp_in_nI (by omega) (by decide)
      rw [fr_3n]
      refine fr_if (nI_ltI hw (by omega)) (fun z => ⟨hin, nm_e ⟨hin, nm_e ?_⟩⟩) (fun z => ?_)
      · unfold wpY_set
        dsimp only
        refine fr_y_bs_t hV hs (br_t rfl (fr_y_bi_t ha (br_t rfl (br_f hz ?_))))
        rw [fr_3n, fr_pr (by omega)]
        refine br_t (nI_le (by omega) (by omega)) ⟨hin, nm_e ⟨hin, nm_e ⟨rfl, ?_⟩⟩⟩
        rw [hc, fr_E_u]
        exact fr_mk (s0 := 1) (by decide) (by decide) (fr_V_u hV z) (by omega) (Or.inl ⟨rfl, rfl⟩)
      · unfold wpY_set
        dsimp only
        refine fr_y_bs_t hV hs (br_t rfl (fr_y_bi_t ha (br_t rfl (br_f hz ?_))))
        rw [fr_3n, fr_pr (by omega)]
        exact br_f (nI_ge (by omega) hw) ⟨rfl, M⟩
theorem i_vc_entry {k : Nat} {u : SX} {v : SY} (I : i_Rel k u v) (hk : k + 4 ≤ 2049) (v1 : Int32) (v2 : Int32) : wpX_entry (fun r => wpY_entry (fun r' => r' = r ∧ i_Rel (k + 4) u v) v v1 v2) u v1 v2 := by
  refine fr_el (P := fun u v => wpX_entry (fun r => wpY_entry (fun r' => r' = r ∧ i_Rel (k + 4) u v) v v1 v2) u v1 v2) ?_ I
  intro N e s0 f_setCount f_largestCount f_coverCount f_current f_inClass a_level a_sets a_later a_largest a_pick a_union a_cover a_nextClass a_classOut f_size a_fits a_chosen hV h0 hI
  have h5 := hV.2.1
  have M := fr_mk (k := k + 4) (N := N) (e := e) (s0 := s0) (f_setCount := f_setCount) (f_current := f_current) (a_sets := a_sets) (a_later := a_later) (a_pick := a_pick) (a_union := a_union) (f_size := f_size) (a_fits := a_fits) (a_chosen := a_chosen) rfl rfl hV h0 hI
  unfold wpX_entry
  dsimp only
  refine fr_x_isState hV (fun hn => br_t rfl ?_) (fun s hs es => br_f fr_01 (fr_x_isInput (fun hn => br_t rfl ?_) (fun a ha ea => br_f fr_01 ?_)))
  · unfold wpY_entry
    dsimp only
    exact fr_y_bs_f hV hn (br_f fr_01 ⟨rfl, M⟩)
  · subst es
    unfold wpY_entry
    dsimp only
    exact fr_y_bs_t hV hs (br_t rfl (fr_y_bi_f hn (br_f fr_01 ⟨rfl, M⟩)))
  · subst es
    subst ea
    have hin : vp_in (2 * nI s + nI a) 10 := by rw [fr_ix2]; exact vp_in_nI (by omega) (by decide)
    refine ⟨hin, ?_⟩
    unfold wpY_entry
    dsimp only
    exact fr_y_bs_t hV hs (br_t rfl (fr_y_bi_t ha (br_t rfl ⟨hin, rfl, M⟩)))
theorem i_vc_compatible {k : Nat} {u : SX} {v : SY} (I : i_Rel k u v) (hk : k + 4 ≤ 2049) (v1 : Int32) (v2 : Int32) : wpX_compatible (fun r u' => wpY_compatible (fun r' => r' = r ∧ i_Rel (k + 4) u' v) v v1 v2) u v1 v2 := by
  refine fr_el (P := fun u v => wpX_compatible (fun r u' => wpY_compatible (fun r' => r' = r ∧ i_Rel (k + 4) u' v) v v1 v2) u v1 v2) ?_ I
  intro N e s0 f_setCount f_largestCount f_coverCount f_current f_inClass a_level a_sets a_later a_largest a_pick a_union a_cover a_nextClass a_classOut f_size a_fits a_chosen hV h0 hI
  have h5 := hV.2.1
  unfold wpX_compatible
  dsimp only
  refine fr_x_isState hV (fun hn => br_t rfl ?_) (fun s hs es => br_f fr_01 (fr_x_isState hV (fun hn => br_t rfl ?_) (fun t ht et => br_f fr_01 (fr_x_refresh hV hI (fun sc lc cc ic lv se la lg pi un co nc ct hT => ?_)))))
  · unfold wpY_compatible
    dsimp only
    exact fr_y_bs_f hV hn (br_f fr_01 ⟨rfl, fr_mk rfl rfl hV h0 hI⟩)
  · subst es
    unfold wpY_compatible
    dsimp only
    exact fr_y_bs_t hV hs (br_t rfl (fr_y_bs_f hV hn (br_f fr_01 ⟨rfl, fr_mk rfl rfl hV h0 hI⟩)))
  · subst es
    subst et
    dsimp only
    have M := fr_mk (k := k + 4) (N := N) (e := e) (s0 := s0) (f_setCount := sc) (f_current := 1) (a_sets := se) (a_later := la) (a_pick := pi) (a_union := un) (f_size := f_size) (a_fits := a_fits) (a_chosen := a_chosen) rfl rfl hV h0 (Or.inr ⟨rfl, hT⟩)
    rw [fr_ix5, nI_clamp (by omega), hT.1 s t hs ht]
    refine ⟨vp_in_nI (by omega) (by decide), fr_if (nI_eq (b := 1000) (fr_lvn (by decide)) (by decide)) (fun z => ?_) (fun z => ?_)⟩
    · unfold wpY_compatible
      dsimp only
      exact fr_y_bs_t hV hs (br_t rfl (fr_y_bs_t hV ht (br_t rfl (fr_y_sh hV hs ht (br_t (by rw [fr_sh_0.mpr z]; rfl) ⟨rfl, M⟩)))))
    · unfold wpY_compatible
      dsimp only
      exact fr_y_bs_t hV hs (br_t rfl (fr_y_bs_t hV ht (br_t rfl (fr_y_sh hV hs ht (br_f (fun y => z (fr_sh_0.mp ((nI_eq (b := 0) fr_sh_lt (by decide)).mp y))) ⟨rfl, M⟩)))))
theorem fr_sh_ne {e : Nat → Nat} {s t : Nat} (h : ¬ fr_lvl e 25 s t = 1000) : fr_sh e s t = fr_lvl e 25 s t := if_neg h
theorem i_vc_splitLength {k : Nat} {u : SX} {v : SY} (I : i_Rel k u v) (hk : k + 4 ≤ 2049) (v1 : Int32) (v2 : Int32) : wpX_splitLength (fun r u' => wpY_splitLength (fun r' => r' = r ∧ i_Rel (k + 4) u' v) v v1 v2) u v1 v2 := by
  refine fr_el (P := fun u v => wpX_splitLength (fun r u' => wpY_splitLength (fun r' => r' = r ∧ i_Rel (k + 4) u' v) v v1 v2) u v1 v2) ?_ I
  intro N e s0 f_setCount f_largestCount f_coverCount f_current f_inClass a_level a_sets a_later a_largest a_pick a_union a_cover a_nextClass a_classOut f_size a_fits a_chosen hV h0 hI
  have h5 := hV.2.1
  unfold wpX_splitLength
  dsimp only
  refine fr_x_isState hV (fun hn => br_t rfl ?_) (fun s hs es => br_f fr_01 (fr_x_isState hV (fun hn => br_t rfl ?_) (fun t ht et => br_f fr_01 (fr_x_refresh hV hI (fun sc lc cc ic lv se la lg pi un co nc ct hT => ?_)))))
  · unfold wpY_splitLength
    dsimp only
    exact fr_y_bs_f hV hn (br_f fr_01 ⟨rfl, fr_mk rfl rfl hV h0 hI⟩)
  · subst es
    unfold wpY_splitLength
    dsimp only
    exact fr_y_bs_t hV hs (br_t rfl (fr_y_bs_f hV hn (br_f fr_01 ⟨rfl, fr_mk rfl rfl hV h0 hI⟩)))
  · subst es
    subst et
    dsimp only
    have M := fr_mk (k := k + 4) (N := N) (e := e) (s0 := s0) (f_setCount := sc) (f_current := 1) (a_sets := se) (a_later := la) (a_pick := pi) (a_union := un) (f_size := f_size) (a_fits := a_fits) (a_chosen := a_chosen) rfl rfl hV h0 (Or.inr ⟨rfl, hT⟩)
    rw [fr_ix5, nI_clamp (by omega), hT.1 s t hs ht]
    refine ⟨vp_in_nI (by omega) (by decide), nm_e (fr_if (nI_eq (b := 1000) (fr_lvn (by decide)) (by decide)) (fun z => ?_) (fun z => ?_))⟩
    · unfold wpY_splitLength
      dsimp only
      exact fr_y_bs_t hV hs (br_t rfl (fr_y_bs_t hV ht (br_t rfl (fr_y_sh hV hs ht (br_t (by rw [fr_sh_0.mpr z]; rfl) ⟨rfl, M⟩)))))
    · unfold wpY_splitLength
      dsimp only
      exact fr_y_bs_t hV hs (br_t rfl (fr_y_bs_t hV ht (br_t rfl (fr_y_sh hV hs ht (br_f (fun y => z (fr_sh_0.mp ((nI_eq (b := 0) fr_sh_lt (by decide)).mp y))) ⟨by rw [fr_sh_ne z], M⟩)))))
theorem i_vc_splitWord {k : Nat} {u : SX} {v : SY} (I : i_Rel k u v) (hk : k + 4 ≤ 2049) (v1 : Int32) (v2 : Int32) : wpX_splitWord (fun r u' => wpY_splitWord (fun r' => r' = r ∧ i_Rel (k + 4) u' v) v v1 v2) u v1 v2 := by
  refine fr_el (P := fun u v => wpX_splitWord (fun r u' => wpY_splitWord (fun r' => r' = r ∧ i_Rel (k + 4) u' v) v v1 v2) u v1 v2) ?_ I
  intro N e s0 f_setCount f_largestCount f_coverCount f_current f_inClass a_level a_sets a_later a_largest a_pick a_union a_cover a_nextClass a_classOut f_size a_fits a_chosen hV h0 hI
  have h5 := hV.2.1
  unfold wpX_splitWord
  dsimp only
  refine fr_x_isState hV (fun hn => br_t rfl ?_) (fun s hs es => br_f fr_01 (fr_x_isState hV (fun hn => br_t rfl ?_) (fun t ht et => br_f fr_01 (fr_x_refresh hV hI (fun sc lc cc ic lv se la lg pi un co nc ct hT => ?_)))))
  · unfold wpY_splitWord
    dsimp only
    exact fr_y_bs_f hV hn (br_f fr_01 ⟨rfl, fr_mk rfl rfl hV h0 hI⟩)
  · subst es
    unfold wpY_splitWord
    dsimp only
    exact fr_y_bs_t hV hs (br_t rfl (fr_y_bs_f hV hn (br_f fr_01 ⟨rfl, fr_mk rfl rfl hV h0 hI⟩)))
  · subst es
    subst et
    dsimp only
    have M := fr_mk (k := k + 4) (N := N) (e := e) (s0 := s0) (f_setCount := sc) (f_current := 1) (a_sets := se) (a_later := la) (a_pick := pi) (a_union := un) (f_size := f_size) (a_fits := a_fits) (a_chosen := a_chosen) rfl rfl hV h0 (Or.inr ⟨rfl, hT⟩)
    have hin : vp_in (5 * nI s + nI t) 25 := by rw [fr_ix5]; exact vp_in_nI (by omega) (by decide)
    have hc : (5 * nI s + nI t).toNatClampNeg = 5 * s + t := by rw [fr_ix5]; exact nI_clamp (by omega)
    rw [hc, hT.1 s t hs ht]
    refine ⟨hin, fr_if (nI_eq (b := 1000) (fr_lvn (by decide)) (by decide)) (fun z => ?_) (fun z => ⟨hin, nm_e ?_⟩)⟩
    · unfold wpY_splitWord
      dsimp only
      exact fr_y_bs_t hV hs (br_t rfl (fr_y_bs_t hV ht (br_t rfl (fr_y_sh hV hs ht (br_t (by rw [fr_sh_0.mpr z]; rfl) ⟨rfl, M⟩)))))
    · rcases fr_lvl_spec e s t 25 (by decide) with ⟨y, _⟩ | ⟨l, hl, hlv, hd⟩
      · exact absurd y z
      · have hb := fr_bound hV hs ht hd
        have hb2 := fr_pairs_le N (by omega)
        have hsh : fr_sh e s t = l + 1 := by rw [fr_sh_ne z, hlv]
        rw [hlv]
        refine Exists.intro (l + 2) (fr_x_sw61 hV hT.1 l s t 0 hs ht hl hd ?_)
        rw [Nat.zero_mul, Nat.zero_add]
        unfold wpY_splitWord
        dsimp only
        refine fr_y_bs_t hV hs (br_t rfl (fr_y_bs_t hV ht (br_t rfl (fr_y_sh hV hs ht ?_))))
        rw [hsh]
        exact br_f (nI_ne0 (by omega) (by omega)) (fr_y_spl hV hs ht (by omega) (fun _ => ⟨rfl, M⟩) (fun y => absurd hd.1 y))
theorem i_vc_compatibleSet {k : Nat} {u : SX} {v : SY} (I : i_Rel k u v) (hk : k + 4 ≤ 2049) (v1 : Int32) : wpX_compatibleSet (fun r u' => wpY_compatibleSet (fun r' v' => r' = r ∧ i_Rel (k + 4) u' v') v v1) u v1 := by
  refine fr_el (P := fun u v => wpX_compatibleSet (fun r u' => wpY_compatibleSet (fun r' v' => r' = r ∧ i_Rel (k + 4) u' v') v v1) u v1) ?_ I
  intro N e s0 f_setCount f_largestCount f_coverCount f_current f_inClass a_level a_sets a_later a_largest a_pick a_union a_cover a_nextClass a_classOut f_size a_fits a_chosen hV h0 hI
  have h5 := hV.2.1
  have h32 := fr_p32 h5
  unfold wpX_compatibleSet
  dsimp only
  refine fr_x_isSet hV (fun hn => br_t rfl ?_) (fun c c1 c2 ec => br_f fr_01 (fr_x_refresh hV hI (fun sc lc cc ic lv se la lg pi un co nc ct hT => ?_)))
  · unfold wpY_compatibleSet
    dsimp only
    exact fr_y_st_f hV hn (br_f fr_01 ⟨rfl, fr_mk rfl rfl hV h0 hI⟩)
  · subst ec
    dsimp only
    refine fr_x_ht hV (by omega) hT.1 (fun z => br_f fr_01 ?_) (fun z => br_t rfl ?_)
    · unfold wpY_compatibleSet
      dsimp only
      exact fr_y_st_t hV c1 c2 (br_t rfl (fr_y_tb hV (fun fi hF => fr_y_ag hV (by omega) hF (fun _ => br_f fr_01 ⟨rfl, fr_mk rfl rfl hV h0 (Or.inr ⟨rfl, hT⟩)⟩) (fun y => absurd z y))))
    · unfold wpY_compatibleSet
      dsimp only
      exact fr_y_st_t hV c1 c2 (br_t rfl (fr_y_tb hV (fun fi hF => fr_y_ag hV (by omega) hF (fun y => absurd y z) (fun _ => br_t rfl ⟨rfl, fr_mk rfl rfl hV h0 (Or.inr ⟨rfl, hT⟩)⟩))))
theorem i_vc_maximals {k : Nat} {u : SX} {v : SY} (I : i_Rel k u v) (hk : k + 4 ≤ 2049) : wpX_maximals (fun r u' => wpY_maximals (fun r' v' => r' = r ∧ i_Rel (k + 4) u' v') v) u := by
  refine fr_el (P := fun u v => wpX_maximals (fun r u' => wpY_maximals (fun r' v' => r' = r ∧ i_Rel (k + 4) u' v') v) u) ?_ I
  intro N e s0 f_setCount f_largestCount f_coverCount f_current f_inClass a_level a_sets a_later a_largest a_pick a_union a_cover a_nextClass a_classOut f_size a_fits a_chosen hV h0 hI
  have hp := Nat.two_pow_pos N
  unfold wpX_maximals
  dsimp only
  refine fr_x_refresh hV hI (fun sc lc cc ic lv se la lg pi un co nc ct hT => ?_)
  dsimp only
  unfold wpY_maximals
  dsimp only
  refine fr_y_tb hV (fun fi hF => ?_)
  have h := fr_y_ms8 (f_at := nI s0 - 1) (f_size := f_size) (a_chosen := a_chosen) (post := fun r' v' => r' = lc ∧ i_Rel (k + 4) ((nI N), sc, lc, cc, 1, (nI s0 - 1), ic, (fr_E e), lv, se, la, lg, pi, un, co, nc, ct) v') hV hF ⟨hT.2.1.symm, fr_mk rfl rfl hV h0 (Or.inr ⟨rfl, hT⟩)⟩ (2 ^ N - 1) 1 (by omega) (Nat.le_refl 1)
  rw [fr_ps1] at h
  exact Exists.intro _ h
theorem i_vc_maximal {k : Nat} {u : SX} {v : SY} (I : i_Rel k u v) (hk : k + 4 ≤ 2049) (v1 : Int32) : wpX_maximal (fun r u' => wpY_maximal (fun r' v' => r' = r ∧ i_Rel (k + 4) u' v') v v1) u v1 := by
  refine fr_el (P := fun u v => wpX_maximal (fun r u' => wpY_maximal (fun r' v' => r' = r ∧ i_Rel (k + 4) u' v') v v1) u v1) ?_ I
  intro N e s0 f_setCount f_largestCount f_coverCount f_current f_inClass a_level a_sets a_later a_largest a_pick a_union a_cover a_nextClass a_classOut f_size a_fits a_chosen hV h0 hI
  have h5 := hV.2.1
  have hS := fr_S31 e h5
  have hp := Nat.two_pow_pos N
  unfold wpX_maximal
  dsimp only
  refine fr_x_refresh hV hI (fun sc lc cc ic lv se la lg pi un co nc ct hT => ?_)
  dsimp only
  have hm := fr_cnt_le (fr_mx N e) (fr_S N e)
  have HY : ∀ r, (∀ j, j < fr_S N e → fr_mx N e j = true → v1 = nI (fr_cnt (fr_mx N e) j) → nI (fr_f N e j) = r) → ((∀ j, j < fr_S N e → fr_mx N e j = true → ¬ v1 = nI (fr_cnt (fr_mx N e) j)) → -1 = r) → wpY_maximal (fun r' v' => r' = r ∧ i_Rel (k + 4) ((nI N), sc, lc, cc, 1, (nI s0 - 1), ic, (fr_E e), lv, se, la, lg, pi, un, co, nc, ct) v') ((nI N), (nI s0 - 1), f_size, (fr_E e), a_fits, a_chosen) v1 := by
    intro r hf hn
    unfold wpY_maximal
    dsimp only
    refine fr_y_tb hV (fun fi hF => ?_)
    have h := fr_y_mx8 (f_at := nI s0 - 1) (f_size := f_size) (a_chosen := a_chosen) (v := v1) (post := fun r' v' => r' = r ∧ i_Rel (k + 4) ((nI N), sc, lc, cc, 1, (nI s0 - 1), ic, (fr_E e), lv, se, la, lg, pi, un, co, nc, ct) v') hV hF (fun j hj hm he => ⟨hf j hj hm he, fr_mk rfl rfl hV h0 (Or.inr ⟨rfl, hT⟩)⟩) (fun z => ⟨hn z, fr_mk rfl rfl hV h0 (Or.inr ⟨rfl, hT⟩)⟩) (2 ^ N - 1) 1 (by omega) (Nat.le_refl 1) (fun j hj => by rw [fr_ps1] at hj; exact absurd hj (Nat.not_lt_zero j))
    rw [fr_ps1] at h
    exact Exists.intro _ h
  have hj31 : ∀ j, j < fr_S N e → fr_cnt (fr_mx N e) j < 2 ^ 31 := fun j hj => by
    have := fr_cnt_le (fr_mx N e) j
    omega
  by_cases hz : v1 < 0
  · refine br_t hz (HY (-1) (fun j hj _ he => ?_) (fun _ => rfl))
    rw [he] at hz
    exact absurd hz (nI_pos (hj31 j hj))
  · obtain ⟨i, hi, rfl⟩ := nI_of hz
    refine br_f hz ?_
    rw [hT.2.1]
    rw [hT.2.1] at HY
    refine fr_if (nI_leI (by omega) hi) (fun z => HY (-1) (fun j hj hmj he => ?_) (fun _ => rfl)) (fun z => ?_)
    · have e1 := (nI_eq hi (hj31 j hj)).mp he
      have e2 := fr_cnt_lt hj hmj
      omega
    · rw [nI_clamp hi, hT.2.2.1 i (by omega)]
      obtain ⟨g1, g2, g3⟩ := fr_enm_s (P := fr_mx N e) (fr_S N e) i (by omega)
      refine ⟨vp_in_nI (by omega) (by decide), HY _ (fun j hj hmj he => ?_) (fun hn => ?_)⟩
      · have e1 := (nI_eq hi (hj31 j hj)).mp he
        rw [e1, fr_enm_c hmj _ hj]
      · exact absurd (by rw [g3]) (hn _ g1 g2)
theorem i_vc_implied {k : Nat} {u : SX} {v : SY} (I : i_Rel k u v) (hk : k + 4 ≤ 2049) (v1 : Int32) (v2 : Int32) : wpX_implied (fun r => wpY_implied (fun r' => r' = r ∧ i_Rel (k + 4) u v) v v1 v2) u v1 v2 := by
  refine fr_el (P := fun u v => wpX_implied (fun r => wpY_implied (fun r' => r' = r ∧ i_Rel (k + 4) u v) v v1 v2) u v1 v2) ?_ I
  intro N e s0 f_setCount f_largestCount f_coverCount f_current f_inClass a_level a_sets a_later a_largest a_pick a_union a_cover a_nextClass a_classOut f_size a_fits a_chosen hV h0 hI
  have h5 := hV.2.1
  have h32 := fr_p32 h5
  unfold wpX_implied
  dsimp only
  refine fr_x_isSet hV (fun hn => br_t rfl ?_) (fun c c1 c2 ec => br_f fr_01 (fr_x_isInput (fun hn => br_t rfl ?_) (fun a ha ea => br_f fr_01 ?_)))
  · unfold wpY_implied
    dsimp only
    exact fr_y_st_f hV hn (br_f fr_01 ⟨rfl, fr_mk rfl rfl hV h0 hI⟩)
  · subst ec
    unfold wpY_implied
    dsimp only
    exact fr_y_st_t hV c1 c2 (br_t rfl (fr_y_bi_f hn (br_f fr_01 ⟨rfl, fr_mk rfl rfl hV h0 hI⟩)))
  · subst ec
    subst ea
    refine fr_x_im hV (by omega) ha ?_
    unfold wpY_implied
    dsimp only
    exact fr_y_st_t hV c1 c2 (br_t rfl (fr_y_bi_t ha (br_t rfl (fr_y_im hV (by omega) ha ⟨rfl, fr_mk rfl rfl hV h0 hI⟩))))
theorem i_vc_coverSize {k : Nat} {u : SX} {v : SY} (I : i_Rel k u v) (hk : k + 4 ≤ 2049) : wpX_coverSize (fun r u' => wpY_coverSize (fun r' v' => r' = r ∧ i_Rel (k + 4) u' v') v) u := by
  refine fr_el (P := fun u v => wpX_coverSize (fun r u' => wpY_coverSize (fun r' v' => r' = r ∧ i_Rel (k + 4) u' v') v) u) ?_ I
  intro N e s0 f_setCount f_largestCount f_coverCount f_current f_inClass a_level a_sets a_later a_largest a_pick a_union a_cover a_nextClass a_classOut f_size a_fits a_chosen hV h0 hI
  unfold wpX_coverSize
  dsimp only
  refine fr_x_refresh hV hI (fun sc lc cc ic lv se la lg pi un co nc ct hT => ?_)
  dsimp only
  unfold wpY_coverSize
  dsimp only
  refine fr_y_best hV (fun k2 p fi ch hF hch => ?_)
  obtain ⟨k1, q, hF1, hcc, _⟩ := hT.2.2.2
  refine ⟨?_, fr_mk rfl rfl hV h0 (Or.inr ⟨rfl, hT⟩)⟩
  rw [hcc, (fr_FC_u hF hF1).1]
section
variable {N : Nat} {e : Nat → Nat} {f_at f_size : Int32} {a_fits a_chosen : Nat → Int32}
theorem fr_y_cs {post : Int32 → SY → Prop} {k1 : Nat} {q : Nat → Nat} {v : Int32} (hV : fr_V N e) (hF1 : fr_FC N e k1 q) (h0 : ¬ fr_ir k1 v → ∀ sz fi ch, post (-1) ((nI N), f_at, sz, (fr_E e), fi, ch)) (h1 : ∀ i, i < k1 → v = nI i → ∀ sz fi ch, post (nI (fr_f N e (q i))) ((nI N), f_at, sz, (fr_E e), fi, ch)) : wpY_coverSet post ((nI N), f_at, f_size, (fr_E e), a_fits, a_chosen) v := by
  have h5 := hV.2.1
  have hk5 := hF1.2.1
  unfold wpY_coverSet
  dsimp only
  refine fr_y_best hV (fun k2 p fi ch hF hch => ?_)
  obtain ⟨e1, e2⟩ := fr_FC_u hF hF1
  subst e1
  dsimp only
  by_cases hz : v < 0
  · exact br_t hz (h0 (fr_ir_neg (by omega) hz) _ _ _)
  · obtain ⟨i, hi, rfl⟩ := nI_of hz
    refine br_f hz (fr_if (nI_leI (by omega) hi) (fun z => h0 (fr_ir_no hi (by omega) (by omega)) _ _ _) (fun z => br_t (nI_lt (b := 5) (by omega) (by decide)) ⟨vp_in_nI (by omega) (by decide), ?_⟩))
    rw [nI_clamp hi, hch i (by omega), e2 i (by omega)]
    exact h1 i (by omega) rfl _ _ _
end
theorem i_vc_coverSet {k : Nat} {u : SX} {v : SY} (I : i_Rel k u v) (hk : k + 4 ≤ 2049) (v1 : Int32) : wpX_coverSet (fun r u' => wpY_coverSet (fun r' v' => r' = r ∧ i_Rel (k + 4) u' v') v v1) u v1 := by
  refine fr_el (P := fun u v => wpX_coverSet (fun r u' => wpY_coverSet (fun r' v' => r' = r ∧ i_Rel (k + 4) u' v') v v1) u v1) ?_ I
  intro N e s0 f_setCount f_largestCount f_coverCount f_current f_inClass a_level a_sets a_later a_largest a_pick a_union a_cover a_nextClass a_classOut f_size a_fits a_chosen hV h0 hI
  have h5 := hV.2.1
  unfold wpX_coverSet
  dsimp only
  refine fr_x_refresh hV hI (fun sc lc cc ic lv se la lg pi un co nc ct hT => ?_)
  dsimp only
  obtain ⟨k1, q, hF1, hcc, hco, _⟩ := hT.2.2.2
  have hk5 := hF1.2.1
  subst hcc
  by_cases hz : v1 < 0
  · exact br_t hz (fr_y_cs hV hF1 (fun _ _ _ _ => ⟨rfl, fr_mk rfl rfl hV h0 (Or.inr ⟨rfl, hT⟩)⟩) (fun i hi he => absurd ⟨i, hi, he⟩ (fr_ir_neg (n := k1) (by omega) hz)))
  · obtain ⟨i, hi, rfl⟩ := nI_of hz
    refine br_f hz (fr_if (nI_leI (by omega) hi) (fun z => fr_y_cs hV hF1 (fun _ _ _ _ => ⟨rfl, fr_mk rfl rfl hV h0 (Or.inr ⟨rfl, hT⟩)⟩) (fun j hj he => absurd ⟨j, hj, he⟩ (fr_ir_no (n := k1) hi (by omega) (by omega)))) (fun z => ?_))
    rw [nI_clamp hi, hco i (by omega)]
    refine ⟨vp_in_nI (by omega) (by decide), fr_y_cs hV hF1 (fun hn => absurd ⟨i, by omega, rfl⟩ hn) (fun j hj he sz fi ch => ⟨?_, fr_mk rfl rfl hV h0 (Or.inr ⟨rfl, hT⟩)⟩)⟩
    have e1 := (nI_eq hi (by omega)).mp he
    rw [e1]
theorem fr_or3_0 {a b c : Nat} (h : ((a ||| b) ||| c) = 0) : a = 0 ∧ b = 0 ∧ c = 0 := by
  have h1 : a ||| b = 0 ∧ c = 0 := Nat.or_eq_zero_iff.mp h
  have h2 : a = 0 ∧ b = 0 := Nat.or_eq_zero_iff.mp h1.1
  exact ⟨h2.1, h2.2, h1.2⟩
section
variable {N : Nat} {e : Nat → Nat} {f_at f_size : Int32} {a_fits a_chosen : Nat → Int32}
theorem fr_y_ic {post : Int32 → SY → Prop} {a b c : Nat} (hV : fr_V N e) (ha : a < 2 ^ N) (hb : b < 2 ^ N) (hc : c < 2 ^ N) (hne : ¬ (a = 0 ∧ b = 0 ∧ c = 0)) (h1 : (fr_Gd N e a = true ∧ fr_Gd N e b = true ∧ fr_Gd N e c = true ∧ ((a ||| b) ||| c) = 2 ^ N - 1 ∧ ∀ i, i < 2 → fr_ok3 N e a b c i) → ∀ sz fi ch, post 1 ((nI N), f_at, sz, (fr_E e), fi, ch)) (h0 : ¬ (fr_Gd N e a = true ∧ fr_Gd N e b = true ∧ fr_Gd N e c = true ∧ ((a ||| b) ||| c) = 2 ^ N - 1 ∧ ∀ i, i < 2 → fr_ok3 N e a b c i) → ∀ sz fi ch, post 0 ((nI N), f_at, sz, (fr_E e), fi, ch)) : wpY_isCover post ((nI N), f_at, f_size, (fr_E e), a_fits, a_chosen) (nI a) (nI b) (nI c) := by
  have h5 := hV.2.1
  have h32 := fr_p32 h5
  rw [← fr_cov3 ha hb hc hne] at h1 h0
  have H := fr_y_cv40 (f_at := f_at) (f_size := f_size) (a_fits := a_fits) (a_chosen := a_chosen) hV ha hb hc h1 h0
  unfold wpY_isCover
  dsimp only
  refine fr_y_out_t hV ha (br_t rfl (fr_y_out_t hV hb (br_t rfl (fr_y_out_t hV hc (br_t rfl ?_)))))
  refine fr_if (nI_eq (b := 0) (by omega) (by decide)) (fun z1 => fr_if (nI_eq (b := 0) (by omega) (by decide)) (fun z2 => fr_if (nI_eq (b := 0) (by omega) (by decide)) (fun z3 => absurd ⟨z1, z2, z3⟩ hne) (fun _ => H)) (fun _ => H)) (fun _ => H)
end
theorem i_vc_isCover {k : Nat} {u : SX} {v : SY} (I : i_Rel k u v) (hk : k + 4 ≤ 2049) (v1 : Int32) (v2 : Int32) (v3 : Int32) : wpX_isCover (fun r u' => wpY_isCover (fun r' v' => r' = r ∧ i_Rel (k + 4) u' v') v v1 v2 v3) u v1 v2 v3 := by
  refine fr_el (P := fun u v => wpX_isCover (fun r u' => wpY_isCover (fun r' v' => r' = r ∧ i_Rel (k + 4) u' v') v v1 v2 v3) u v1 v2 v3) ?_ I
  intro N e s0 f_setCount f_largestCount f_coverCount f_current f_inClass a_level a_sets a_later a_largest a_pick a_union a_cover a_nextClass a_classOut f_size a_fits a_chosen hV h0 hI
  have h5 := hV.2.1
  have h32 := fr_p32 h5
  have hp := Nat.two_pow_pos N
  have M := fr_mk (k := k + 4) (N := N) (e := e) (s0 := s0) (f_setCount := f_setCount) (f_current := f_current) (a_sets := a_sets) (a_later := a_later) (a_pick := a_pick) (a_union := a_union) (f_size := f_size) (a_fits := a_fits) (a_chosen := a_chosen) rfl rfl hV h0 hI
  unfold wpX_isCover
  dsimp only
  have hb1 : ¬ fr_ir (2 ^ N) v1 → wpY_isCover (fun r' v' => r' = -1 ∧ i_Rel (k + 4) ((nI N), f_setCount, f_largestCount, f_coverCount, f_current, (nI s0 - 1), f_inClass, (fr_E e), a_level, a_sets, a_later, a_largest, a_pick, a_union, a_cover, a_nextClass, a_classOut) v') ((nI N), (nI s0 - 1), f_size, (fr_E e), a_fits, a_chosen) v1 v2 v3 := by
    intro z
    unfold wpY_isCover
    dsimp only
    exact fr_y_out_f hV z (br_f fr_01 ⟨rfl, M⟩)
  have hb2 : fr_ir (2 ^ N) v1 → ¬ fr_ir (2 ^ N) v2 → wpY_isCover (fun r' v' => r' = -1 ∧ i_Rel (k + 4) ((nI N), f_setCount, f_largestCount, f_coverCount, f_current, (nI s0 - 1), f_inClass, (fr_E e), a_level, a_sets, a_later, a_largest, a_pick, a_union, a_cover, a_nextClass, a_classOut) v') ((nI N), (nI s0 - 1), f_size, (fr_E e), a_fits, a_chosen) v1 v2 v3 := by
    rintro ⟨a, ha, rfl⟩ z
    unfold wpY_isCover
    dsimp only
    exact fr_y_out_t hV ha (br_t rfl (fr_y_out_f hV z (br_f fr_01 ⟨rfl, M⟩)))
  have hb3 : fr_ir (2 ^ N) v1 → fr_ir (2 ^ N) v2 → ¬ fr_ir (2 ^ N) v3 → wpY_isCover (fun r' v' => r' = -1 ∧ i_Rel (k + 4) ((nI N), f_setCount, f_largestCount, f_coverCount, f_current, (nI s0 - 1), f_inClass, (fr_E e), a_level, a_sets, a_later, a_largest, a_pick, a_union, a_cover, a_nextClass, a_classOut) v') ((nI N), (nI s0 - 1), f_size, (fr_E e), a_fits, a_chosen) v1 v2 v3 := by
    rintro ⟨a, ha, rfl⟩ ⟨b, hb, rfl⟩ z
    unfold wpY_isCover
    dsimp only
    exact fr_y_out_t hV ha (br_t rfl (fr_y_out_t hV hb (br_t rfl (fr_y_out_f hV z (br_f fr_01 ⟨rfl, M⟩)))))
  refine nm_r (fr_shT N (by omega)) ?_
  by_cases z1 : v1 < 0
  · exact br_t z1 (hb1 (fr_ir_neg (by omega) z1))
  obtain ⟨a, ha, rfl⟩ := nI_of z1
  refine br_f z1 (fr_if (nI_leI (by omega) ha) (fun y1 => hb1 (fr_ir_no ha (by omega) (by omega))) (fun y1 => ?_))
  have ra : fr_ir (2 ^ N) (nI a) := ⟨a, by omega, rfl⟩
  by_cases z2 : v2 < 0
  · exact br_t z2 (hb2 ra (fr_ir_neg (by omega) z2))
  obtain ⟨b, hb, rfl⟩ := nI_of z2
  refine br_f z2 (fr_if (nI_leI (by omega) hb) (fun y2 => hb2 ra (fr_ir_no hb (by omega) (by omega))) (fun y2 => ?_))
  have rb : fr_ir (2 ^ N) (nI b) := ⟨b, by omega, rfl⟩
  by_cases z3 : v3 < 0
  · exact br_t z3 (hb3 ra rb (fr_ir_neg (by omega) z3))
  obtain ⟨c, hc, rfl⟩ := nI_of z3
  refine br_f z3 (fr_if (nI_ltI hc (by omega)) (fun y3 => ?_) (fun y3 => hb3 ra rb (fr_ir_no hc (by omega) (by omega))))
  clear hb1 hb2 hb3
  rw [fr_orT a (by omega) b (by omega), fr_orT (a ||| b) (fr_or32 (by omega) (by omega)) c (by omega), fr_full N (by omega)]
  have ho : ((a ||| b) ||| c) < 32 := fr_or32 (fr_or32 (by omega) (by omega)) (by omega)
  refine fr_if (nI_eq (b := 0) (by omega) (by decide)) (fun y => ?_) (fun y => ?_)
  · obtain ⟨e1, e2, e3⟩ := fr_or3_0 y
    subst e1
    subst e2
    subst e3
    unfold wpY_isCover
    dsimp only
    exact fr_y_out_t hV hp (br_t rfl (fr_y_out_t hV hp (br_t rfl (fr_y_out_t hV hp (br_t rfl (br_t rfl (br_t rfl (br_t rfl ⟨rfl, M⟩))))))))
  · have hne : ¬ (a = 0 ∧ b = 0 ∧ c = 0) := by
      rintro ⟨e1, e2, e3⟩
      apply y
      rw [e1, e2, e3]
      rfl
    refine fr_x_refresh hV hI (fun sc lc cc ic lv se la lg pi un co nc ct hT => ?_)
    dsimp only
    have Y0 : ¬ (fr_Gd N e a = true ∧ fr_Gd N e b = true ∧ fr_Gd N e c = true ∧ ((a ||| b) ||| c) = 2 ^ N - 1 ∧ ∀ i, i < 2 → fr_ok3 N e a b c i) → wpY_isCover (fun r' v' => r' = 0 ∧ i_Rel (k + 4) ((nI N), sc, lc, cc, 1, (nI s0 - 1), ic, (fr_E e), lv, se, la, lg, pi, un, co, nc, ct) v') ((nI N), (nI s0 - 1), f_size, (fr_E e), a_fits, a_chosen) (nI a) (nI b) (nI c) := fun z => fr_y_ic hV (by omega) (by omega) y3 hne (fun w => absurd w z) (fun _ _ _ _ => ⟨rfl, fr_mk rfl rfl hV h0 (Or.inr ⟨rfl, hT⟩)⟩)
    refine fr_x_ht hV (by omega) hT.1 (fun ga => br_f fr_01 (fr_x_ht hV (by omega) hT.1 (fun gb => br_f fr_01 (fr_x_ht hV (by omega) hT.1 (fun gc => br_f fr_01 (fr_if (nI_eq (by omega) (by omega)) (fun yo => Exists.intro 3 ((fr_x_cv98 hV (by omega) (by omega) (by omega) (fun hok => ?_) (fun hok => Y0 (fun w => hok w.2.2.2.2)) 2 0 rfl).1 (fun j hj => absurd hj (Nat.not_lt_zero j)))) (fun yo => Y0 (fun w => yo w.2.2.2.1)))) (fun gc => br_t rfl (Y0 (fun w => gc w.2.2.1))))) (fun gb => br_t rfl (Y0 (fun w => gb w.2.1))))) (fun ga => br_t rfl (Y0 (fun w => ga w.1)))
    exact fr_y_ic hV (by omega) (by omega) y3 hne (fun _ _ _ _ => ⟨rfl, fr_mk rfl rfl hV h0 (Or.inr ⟨rfl, hT⟩)⟩) (fun w => absurd ⟨ga, gb, gc, yo, hok⟩ w)
theorem i_vc_restart {k : Nat} {u : SX} {v : SY} (I : i_Rel k u v) (hk : k + 4 ≤ 2049) : wpX_restart (fun u' => wpY_restart (fun v' => i_Rel (k + 4) u' v') v) u := by
  refine fr_el (P := fun u v => wpX_restart (fun u' => wpY_restart (fun v' => i_Rel (k + 4) u' v') v) u) ?_ I
  intro N e s0 f_setCount f_largestCount f_coverCount f_current f_inClass a_level a_sets a_later a_largest a_pick a_union a_cover a_nextClass a_classOut f_size a_fits a_chosen hV h0 hI
  have h5 := hV.2.1
  have h2 := hV.1
  unfold wpX_restart
  dsimp only
  refine fr_x_refresh hV hI (fun sc lc cc ic lv se la lg pi un co nc ct hT => ?_)
  dsimp only
  obtain ⟨t1, t2, t3, k1, q, hF, hcc, hco, hn, _⟩ := hT
  subst hcc
  have hF2 := hF
  obtain ⟨a1, a2, a3, a4, a5, a6⟩ := hF2
  refine fr_x_fw (x := 1) (g := fr_g N e q) (by decide) (by omega) (fun i hi => ⟨hco i hi, fr_f32 h5 (a4.2 i hi)⟩) (fun i hi hs => ?_) (fun hno => ?_)
  · unfold wpY_restart
    dsimp only
    exact fr_mk (s0 := 1) (by decide) (by decide) hV (by omega) (Or.inr ⟨rfl, t1, t2, t3, k1, q, hF, rfl, hco, hn, fun _ => ⟨i, hi, rfl, fr_sub1.mp hs⟩⟩)
  · have h1 : (2 ^ N - 1).testBit 0 = true := fr_full_bit (by omega)
    rw [← a5.2.1] at h1
    obtain ⟨i, hi, hb⟩ := (fr_or_bit k1).mp h1
    exact absurd (fr_sub1.mpr hb) (hno i hi)
theorem i_vc_read {k : Nat} {u : SX} {v : SY} (I : i_Rel k u v) (hk : k + 4 ≤ 2049) (v1 : Int32) : wpX_read (fun r u' => wpY_read (fun r' v' => r' = r ∧ i_Rel (k + 4) u' v') v v1) u v1 := by
  refine fr_el (P := fun u v => wpX_read (fun r u' => wpY_read (fun r' v' => r' = r ∧ i_Rel (k + 4) u' v') v v1) u v1) ?_ I
  intro N e s0 f_setCount f_largestCount f_coverCount f_current f_inClass a_level a_sets a_later a_largest a_pick a_union a_cover a_nextClass a_classOut f_size a_fits a_chosen hV h0 hI
  have h5 := hV.2.1
  unfold wpX_read
  dsimp only
  refine fr_x_isInput (fun hn => br_t rfl ?_) (fun a ha ea => br_f fr_01 ?_)
  · unfold wpY_read
    dsimp only
    exact fr_y_bi_f hn (br_f fr_01 ⟨rfl, fr_mk rfl rfl hV h0 hI⟩)
  subst ea
  refine fr_brM (by omega) (fun z => ?_) (fun z => ?_)
  · unfold wpY_read
    dsimp only
    exact fr_y_bi_t ha (br_t rfl (br_t (by rw [z]; decide) ⟨rfl, fr_mk rfl rfl hV h0 hI⟩))
  refine fr_x_refresh hV hI (fun sc lc cc ic lv se la lg pi un co nc ct hT => ?_)
  dsimp only
  have hT2 := hT
  obtain ⟨t1, t2, t3, k1, q, hF, hcc, hco, hn, hst⟩ := hT2
  obtain ⟨c, hc, hic, hbit⟩ := hst z
  subst hcc
  subst hic
  have hk5 := hF.2.1
  obtain ⟨⟨d, hd, hnc, hsub⟩, hct⟩ := hn c a ha (by omega)
  have hnx := fr_nx_le hV (s0 - 1) a
  have hou := fr_ou_lt e (s0 - 1) a
  have hcl : (2 * nI c + nI a).toNatClampNeg = 2 * c + a := by rw [fr_ix2]; exact nI_clamp (by omega)
  have hin : vp_in (2 * nI c + nI a) 10 := by rw [fr_ix2]; exact vp_in_nI (by omega) (by decide)
  have hTn : ∀ ic', (0 < fr_nx e (s0 - 1) a → ic' = nI d) → fr_TB N e (fr_nx e (s0 - 1) a) lc (nI k1) ic' lv lg co nc ct := fun ic' hi => ⟨t1, t2, t3, k1, q, hF, rfl, hco, hn, fun y => ⟨d, hd, hi y, fr_sub_iff.mp hsub _ (fr_im_bit.mpr ⟨s0 - 1, by omega, hbit, by omega⟩)⟩⟩
  have HY : ∀ r ic', (0 < fr_nx e (s0 - 1) a → ic' = nI d) → (fr_ou e (s0 - 1) a = 0 → r = -2) → (0 < fr_ou e (s0 - 1) a → r = nI (fr_ou e (s0 - 1) a) - 1) → wpY_read (fun r' v' => r' = r ∧ i_Rel (k + 4) ((nI N), sc, lc, (nI k1), 1, (nI (fr_nx e (s0 - 1) a) - 1), ic', (fr_E e), lv, se, la, lg, pi, un, co, nc, ct) v') ((nI N), (nI s0 - 1), f_size, (fr_E e), a_fits, a_chosen) (nI a) := by
    intro r ic' hi r0 r1
    unfold wpY_read
    dsimp only
    refine fr_y_bi_t ha (br_t rfl (br_f (fr_neM (by omega) z) ?_))
    rw [fr_pr z]
    refine fr_y_output hV (by omega) ha (fr_y_next hV (by omega) ha (fr_brM (by omega) (fun y => ⟨(r0 y).symm, ?_⟩) (fun y => ⟨(r1 y).symm, ?_⟩)))
    · exact fr_mk rfl rfl hV (by omega) (Or.inr ⟨rfl, hTn ic' hi⟩)
    · exact fr_mk rfl rfl hV (by omega) (Or.inr ⟨rfl, hTn ic' hi⟩)
  rw [fr_pr z] at HY ⊢
  have h42 : ∀ (z0 : Int32) (r : Int32), (z0 = 0 → r = -2) → (¬ z0 = 0 → r = ct (2 * c + a)) → (fr_ou e (s0 - 1) a = 0 → r = -2) → (0 < fr_ou e (s0 - 1) a → r = nI (fr_ou e (s0 - 1) a) - 1) → wX_read_42 (fun r u' => wpY_read (fun r' v' => r' = r ∧ i_Rel (k + 4) u' v') ((nI N), (nI (s0 - 1)), f_size, (fr_E e), a_fits, a_chosen) (nI a)) (nI a) z0 (nI N) sc lc (nI k1) 1 (nI (s0 - 1)) (nI c) (fr_E e) lv se la lg pi un co nc ct := by
    intro z0 r b0 b1 r0 r1
    unfold wX_read_42
    rw [hcl, hnc]
    refine ⟨hin, nm_e (fr_x_next hV (by omega) ha (fr_brM (by omega) (fun y => ?_) (fun y => ⟨hin, nm_e ?_⟩)))⟩
    · refine br_c (fun w => ?_) (fun w => ?_)
      · rw [← b0 w]
        exact HY r _ (fun y2 => by omega) r0 r1
      · rw [← b1 w]
        exact HY r _ (fun y2 => by omega) r0 r1
    · refine br_c (fun w => ?_) (fun w => ?_)
      · rw [← b0 w]
        exact HY r _ (fun _ => rfl) r0 r1
      · rw [← b1 w]
        exact HY r _ (fun _ => rfl) r0 r1
  refine fr_x_output hV (by omega) ha (fr_brM (by omega) (fun y => h42 0 (-2) (fun _ => rfl) (fun w => absurd rfl w) (fun _ => rfl) (fun w => by omega)) (fun y => h42 1 (ct (2 * c + a)) (fun w => absurd w fr_01) (fun _ => rfl) (fun w => by omega) (fun _ => hct (s0 - 1) (by omega) hbit y)))
theorem i_vc_lost {k : Nat} {u : SX} {v : SY} (I : i_Rel k u v) (hk : k + 4 ≤ 2049) : wpX_lost (fun r => wpY_lost (fun r' => r' = r ∧ i_Rel (k + 4) u v) v) u := by
  refine fr_el (P := fun u v => wpX_lost (fun r => wpY_lost (fun r' => r' = r ∧ i_Rel (k + 4) u v) v) u) ?_ I
  intro N e s0 f_setCount f_largestCount f_coverCount f_current f_inClass a_level a_sets a_later a_largest a_pick a_union a_cover a_nextClass a_classOut f_size a_fits a_chosen hV h0 hI
  exact br_c (fun z => br_t z ⟨rfl, fr_mk rfl rfl hV h0 hI⟩) (fun z => br_f z ⟨rfl, fr_mk rfl rfl hV h0 hI⟩)
end
