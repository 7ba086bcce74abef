section
/-- congruence modulo 2^b as an equation: cb_K b * (p - q) = 0 -/
def cb_K (b : Nat) : Int32 := nI (2 ^ (32 - b))
/-- the method 'reduced' -/
def cb_r (b : Nat) (a : Int32) : Int32 := a &&& (nI (2 ^ b) - 1)
/-- a reduced entry -/
def cb_E (b : Nat) (a : Int32) : Prop := ∃ t : Nat, t < 2 ^ b ∧ a = nI t
theorem cb_mask : ∀ b, b < 5 → (nI (2 ^ b) - 1).toBitVec.toNat = 2 ^ b - 1 := by decide +kernel
theorem cb_r_eq {b : Nat} (hb : b < 5) (a : Int32) : cb_r b a = nI (a.toBitVec.toNat % 2 ^ b) := pk_and a b (cb_mask b hb)
theorem cb_r_E {b : Nat} (hb : b < 5) (a : Int32) : cb_E b (cb_r b a) := ⟨_, Nat.mod_lt _ (Nat.two_pow_pos b), cb_r_eq hb a⟩
theorem cb_rN {b t : Nat} (hb : b < 5) (ht : t < 2 ^ 32) : cb_r b (nI t) = nI (t % 2 ^ b) := by
  rw [cb_r_eq hb, pk_tn ht]
theorem cb_of (x : Int32) : ∃ n, n < 2 ^ 32 ∧ x = nI n := by
  refine ⟨x.toBitVec.toNat, x.toBitVec.isLt, ?_⟩
  apply Int32.toBitVec_inj.mp
  apply BitVec.eq_of_toNat_eq
  rw [pk_tn x.toBitVec.isLt]
theorem cb_per (x q : Nat) : nI (x + 4294967296 * q) = nI x := by
  apply Int32.toBitVec_inj.mp
  apply BitVec.eq_of_toNat_eq
  show (BitVec.ofNat 32 _).toNat = (BitVec.ofNat 32 _).toNat
  rw [BitVec.toNat_ofNat, BitVec.toNat_ofNat]
  exact Nat.add_mul_mod_self_left x 4294967296 q
theorem cb_p32 {b : Nat} (hb : b < 5) : 2 ^ (32 - b) * 2 ^ b = 4294967296 := by
  rw [← Nat.pow_add, show 32 - b + b = 32 by omega]
theorem cb_Km {b : Nat} (hb : b < 5) (t : Nat) : cb_K b * nI t = cb_K b * nI (t % 2 ^ b) := by
  unfold cb_K
  rw [pk_mul, pk_mul]
  have e : 2 ^ (32 - b) * t = 2 ^ (32 - b) * (t % 2 ^ b) + 4294967296 * (t / 2 ^ b) := by
    have h2 := Nat.mod_add_div t (2 ^ b)
    calc 2 ^ (32 - b) * t = 2 ^ (32 - b) * (t % 2 ^ b + 2 ^ b * (t / 2 ^ b)) := by rw [h2]
      _ = _ := by rw [Nat.mul_add, ← Nat.mul_assoc, cb_p32 hb]
  rw [e, cb_per]
theorem cb_Kc {b x y : Nat} (hb : b < 5) (h : x % 2 ^ b = y % 2 ^ b) : cb_K b * nI x = cb_K b * nI y := by
  rw [cb_Km hb x, cb_Km hb y, h]
theorem cb_K_r {b : Nat} (hb : b < 5) (a : Int32) : cb_K b * cb_r b a = cb_K b * a := by
  obtain ⟨t, ht, rfl⟩ := cb_of a
  rw [cb_rN hb ht, ← cb_Km hb]
theorem cb_K0 {b t : Nat} (hb : b < 5) (h : cb_K b * nI t = 0) : t % 2 ^ b = 0 := by
  have e : nI (2 ^ (32 - b) * t) = nI 0 := by
    rw [← pk_mul]
    exact h
  have e2 : (nI (2 ^ (32 - b) * t)).toBitVec.toNat = (nI 0).toBitVec.toNat := by rw [e]
  have e3 : (BitVec.ofNat 32 (2 ^ (32 - b) * t)).toNat = 0 := e2
  have h1 : 2 ^ (32 - b) * 2 ^ b = 2 ^ 32 := cb_p32 hb
  rw [BitVec.toNat_ofNat, ← h1, Nat.mul_mod_mul_left] at e3
  exact (Nat.mul_eq_zero.mp e3).resolve_left (Nat.ne_of_gt (Nat.two_pow_pos _))
theorem cb_K0i {b t : Nat} (hb : b < 5) (h : t % 2 ^ b = 0) : cb_K b * nI t = 0 := by
  rw [cb_Km hb, h, nI_0, Int32.mul_zero]
theorem cb_Kb {b : Nat} (hb : b < 5) : cb_K b * nI (2 ^ b) = 0 := cb_K0i hb (Nat.mod_self _)
theorem cb_E0 {b : Nat} (hb : b < 5) {a : Int32} (ha : cb_E b a) (h : cb_K b * a = 0) : a = 0 := by
  obtain ⟨t, ht, rfl⟩ := ha
  have h2 := cb_K0 hb h
  rw [Nat.mod_eq_of_lt ht] at h2
  rw [h2, nI_0]
theorem cb_Ez (b : Nat) : cb_E b 0 := ⟨0, Nat.two_pow_pos b, rfl⟩
theorem cb_r0 {b : Nat} (hb : b < 5) : cb_r b 0 = 0 := cb_E0 hb (cb_r_E hb 0) (by rw [cb_K_r hb, Int32.mul_zero])
theorem cb_pp (i j : Nat) : nI (2 ^ i) * nI (2 ^ j) = nI (2 ^ (i + j)) := by rw [pk_mul, Nat.pow_add]
theorem cb_sl : ∀ k, k < 32 → ((nI k &&& 31).toBitVec.smod 32).toNat = k := by decide +kernel
theorem cb_shlN {t k : Nat} (hk : k < 32) (h : t * 2 ^ k < 2 ^ 32) : nI t <<< (nI k &&& 31) = nI (t * 2 ^ k) := pk_shlN _ k (cb_sl k hk) h
theorem cb_shl1 {k : Nat} (hk : k < 31) : (1 : Int32) <<< (nI k &&& 31) = nI (2 ^ k) := by
  have h := cb_shlN (t := 1) (k := k) (by omega) (by rw [Nat.one_mul]; exact Nat.pow_lt_pow_right (by decide) (by omega))
  rw [Nat.one_mul] at h
  exact h
theorem cb_shrN {t k : Nat} (ht : t < 2 ^ 31) (hk : k < 32) : nI t >>> (nI k &&& 31) = nI (t / 2 ^ k) := pk_shrN ht _ k (cb_sl k hk)
theorem cb_p16 {b t : Nat} (hb : b < 5) (h : t < 2 ^ b) : t < 16 := Nat.lt_of_lt_of_le h (Nat.pow_le_pow_right (n := 2) (by decide) (show b ≤ 4 by omega))
theorem cb_p16le {b : Nat} (hb : b < 5) : 2 ^ b ≤ 16 := Nat.pow_le_pow_right (n := 2) (by decide) (show b ≤ 4 by omega)
/-- the method 'zeros' on t -/
def cb_zl (t : Nat) : Nat → Nat → Nat
  | 0, k => k
  | f + 1, k => if t / 2 ^ k % 2 = 1 then k else cb_zl t f (k + 1)
def cb_z (b t : Nat) : Nat := cb_zl t b 0
theorem cb_zF : ∀ b, b < 5 → ∀ t, t < 2 ^ b → t ≠ 0 → cb_z b t < b ∧ t / 2 ^ cb_z b t % 2 = 1 ∧ t / 2 ^ cb_z b t * 2 ^ cb_z b t = t := by decide +kernel
theorem cb_zP : ∀ b, b < 5 → ∀ t, t < 2 ^ b → ∀ p, p < 5 → p ≤ cb_z b t → t / 2 ^ p * 2 ^ p = t := by decide +kernel
theorem cb_u4 : ∀ b, b < 5 → ∀ u, u < 16 → u % 2 = 1 → (u * u * u * u) % 2 ^ b = 1 % 2 ^ b := by decide +kernel
theorem cb_Ku {b u : Nat} (hb : b < 5) (hu : u < 16) (h : u % 2 = 1) : cb_K b * (nI u * nI u * nI u * nI u) = cb_K b := by
  rw [pk_mul, pk_mul, pk_mul, cb_Kc hb (cb_u4 b hb u hu h)]
  exact Int32.mul_one _
/-- rows at x -/
def cb_dot (r x : Nat → Int32) : Nat → Int32
  | 0 => 0
  | n + 1 => cb_dot r x n + r n * x n
def cb_val (n : Nat) (r x : Nat → Int32) : Int32 := cb_dot r x n - r 4
theorem cb_dot_lin {K f q : Int32} {w' w r x : Nat → Int32} (n : Nat) (h : ∀ k, k < n → K * w' k = K * (f * w k - q * r k)) :
    K * cb_dot w' x n = K * (f * cb_dot w x n - q * cb_dot r x n) := by
  induction n with
  | zero =>
    show K * 0 = K * (f * 0 - q * 0)
    grind
  | succ n ih =>
    have a := ih (fun k hk => h k (by omega))
    have c := h n (by omega)
    show K * (cb_dot w' x n + w' n * x n) = K * (f * (cb_dot w x n + w n * x n) - q * (cb_dot r x n + r n * x n))
    grind
theorem cb_val_lin {K f q : Int32} {w' w r x : Nat → Int32} {n : Nat} (hn : n ≤ 4) (h : ∀ k, k < 5 → K * w' k = K * (f * w k - q * r k)) :
    K * cb_val n w' x = K * (f * cb_val n w x - q * cb_val n r x) := by
  have a := cb_dot_lin (x := x) n (fun k hk => h k (by omega))
  have c := h 4 (by omega)
  unfold cb_val
  clear h hn
  generalize cb_dot w' x n = d1 at a ⊢
  generalize cb_dot w x n = d2 at a ⊢
  generalize cb_dot r x n = d3 at a ⊢
  generalize w' 4 = e1 at c ⊢
  generalize w 4 = e2 at c ⊢
  generalize r 4 = e3 at c ⊢
  clear w' w r x n
  grind
theorem cb_dot_cg {r r' x x' : Nat → Int32} (n : Nat) (h : ∀ k, k < n → r k * x k = r' k * x' k) : cb_dot r x n = cb_dot r' x' n := by
  induction n with
  | zero => rfl
  | succ n ih =>
    show cb_dot r x n + r n * x n = cb_dot r' x' n + r' n * x' n
    rw [ih (fun k hk => h k (by omega)), h n (by omega)]
theorem cb_val_cg {r r' x : Nat → Int32} {n : Nat} (hn : n ≤ 4) (h : ∀ k, k < 5 → r k = r' k) : cb_val n r x = cb_val n r' x := by
  unfold cb_val
  rw [cb_dot_cg n (fun k hk => by rw [h k (by omega)]), h 4 (by omega)]
theorem cb_dot_0 {r x : Nat → Int32} (n : Nat) (h : ∀ k, k < n → r k = 0) : cb_dot r x n = 0 := by
  induction n with
  | zero => rfl
  | succ n ih =>
    show cb_dot r x n + r n * x n = 0
    rw [ih (fun k hk => h k (by omega)), h n (by omega), Int32.zero_mul, Int32.add_zero]
/-- one place of x changed -/
theorem cb_dot_up {r x : Nat → Int32} {j : Nat} {t : Int32} (n : Nat) (hj : j < n) : cb_dot r (upd x j t) n = cb_dot r x n + r j * (t - x j) := by
  induction n with
  | zero => omega
  | succ n ih =>
    show cb_dot r (upd x j t) n + r n * upd x j t n = cb_dot r x n + r n * x n + r j * (t - x j)
    by_cases e : j = n
    · rw [e, pk_us, cb_dot_cg (r' := r) (x' := x) n (fun k hk => by rw [pk_un (by omega)])]
      grind
    · rw [ih (by omega), pk_un (by omega)]
      grind
/-- a part of an array written: o .. o + i - 1 by g -/
def cb_mx (o i : Nat) (g f : Nat → Int32) : Nat → Int32 := fun t => if o ≤ t ∧ t < o + i then g (t - o) else f t
theorem cb_mx_in {o i t : Nat} {g f : Nat → Int32} (h : o ≤ t) (h2 : t < o + i) : cb_mx o i g f t = g (t - o) := if_pos ⟨h, h2⟩
theorem cb_mx_out {o i t : Nat} {g f : Nat → Int32} (h : t < o ∨ o + i ≤ t) : cb_mx o i g f t = f t := if_neg (by omega)
theorem cb_mx_0 (o : Nat) (g f : Nat → Int32) : cb_mx o 0 g f = f := by
  funext t
  exact cb_mx_out (by omega)
theorem cb_mx_up {o i k : Nat} {g f : Nat → Int32} {v : Int32} (hk : k = o + i) (hv : v = g i) : upd (cb_mx o i g f) k v = cb_mx o (i + 1) g f := by
  funext t
  by_cases e : t = k
  · rw [e, pk_us, cb_mx_in (by omega) (by omega), hv, hk, Nat.add_sub_cancel_left]
  · rw [pk_un e]
    by_cases h : o ≤ t ∧ t < o + i
    · rw [cb_mx_in h.1 h.2, cb_mx_in h.1 (by omega)]
    · rw [cb_mx_out (by omega), cb_mx_out (by omega)]
theorem cb_mx_E {b o i : Nat} {g f : Nat → Int32} (hg : ∀ k, cb_E b (g k)) (hf : ∀ k, cb_E b (f k)) : ∀ k, cb_E b (cb_mx o i g f k) := by
  intro k
  by_cases h : o ≤ k ∧ k < o + i
  · rw [cb_mx_in h.1 h.2]
    exact hg _
  · rw [cb_mx_out (by omega)]
    exact hf _
end
section
/-- row j of a basis -/
def cb_row (A : Nat → Int32) (j : Nat) : Nat → Int32 := fun k => A (j * 5 + k)
def cb_sub (b : Nat) (q : Int32) (r w : Nat → Int32) : Nat → Int32 := cb_mx 0 5 (fun k => cb_r b (w k - q * r k)) w
def cb_scl (b : Nat) (f : Int32) (w : Nat → Int32) : Nat → Int32 := cb_mx 0 5 (fun k => cb_r b (w k * f)) w
def cb_upN (P : Nat → Nat) (j z : Nat) : Nat → Nat := fun i => if i = j then z else P i
/-- basis, powers, work line -/
abbrev cb_T : Type := (Nat → Int32) × (Nat → Nat) × (Nat → Int32)
def cb_t (s : cb_T) (j : Nat) : Nat := (s.2.2 j).toNatClampNeg
def cb_lo (b j : Nat) (s : cb_T) : cb_T := (s.1, s.2.1, cb_sub b (nI (cb_t s j / 2 ^ s.2.1 j)) (cb_row s.1 j) s.2.2)
def cb_u (b j : Nat) (s : cb_T) : Nat := cb_t s j / 2 ^ cb_z b (cb_t s j)
def cb_w1 (b j : Nat) (s : cb_T) : Nat → Int32 := cb_scl b (nI (cb_u b j s) * nI (cb_u b j s) * nI (cb_u b j s)) s.2.2
def cb_a1 (b j : Nat) (s : cb_T) : Nat → Int32 := cb_mx (j * 5) 5 (cb_w1 b j s) s.1
def cb_hi (b j : Nat) (s : cb_T) : cb_T :=
  (cb_a1 b j s, cb_upN s.2.1 j (cb_z b (cb_t s j)), cb_sub b (nI (2 ^ (s.2.1 j - cb_z b (cb_t s j)))) (cb_row (cb_a1 b j s) j) (cb_mx 0 5 (cb_row s.1 j) (cb_w1 b j s)))
def cb_st (b j : Nat) (s : cb_T) : cb_T := if s.2.2 j = 0 then s else if s.2.1 j ≤ cb_z b (cb_t s j) then cb_lo b j s else cb_hi b j s
def cb_it (b : Nat) (s : cb_T) : Nat → cb_T
  | 0 => s
  | j + 1 => cb_st b j (cb_it b s j)
/-- ranges -/
def cb_R (b : Nat) (s : cb_T) : Prop := (∀ i, cb_E b (s.1 i)) ∧ (∀ i, 20 ≤ i → s.1 i = 0) ∧ (∀ i, s.2.1 i ≤ b) ∧ (∀ i, 4 ≤ i → s.2.1 i = 0) ∧ (∀ k, cb_E b (s.2.2 k)) ∧ (∀ k, 5 ≤ k → s.2.2 k = 0)
theorem cb_sub_E {b : Nat} (hb : b < 5) {q : Int32} {r w : Nat → Int32} (h : ∀ k, cb_E b (w k)) : ∀ k, cb_E b (cb_sub b q r w k) := cb_mx_E (fun _ => cb_r_E hb _) h
theorem cb_scl_E {b : Nat} (hb : b < 5) {f : Int32} {w : Nat → Int32} (h : ∀ k, cb_E b (w k)) : ∀ k, cb_E b (cb_scl b f w k) := cb_mx_E (fun _ => cb_r_E hb _) h
theorem cb_sub_o {b : Nat} {q : Int32} {r w : Nat → Int32} (h : ∀ k, 5 ≤ k → w k = 0) : ∀ k, 5 ≤ k → cb_sub b q r w k = 0 := fun k hk => by
  unfold cb_sub
  rw [cb_mx_out (by omega), h k hk]
theorem cb_scl_o {b : Nat} {f : Int32} {w : Nat → Int32} (h : ∀ k, 5 ≤ k → w k = 0) : ∀ k, 5 ≤ k → cb_scl b f w k = 0 := fun k hk => by
  unfold cb_scl
  rw [cb_mx_out (by omega), h k hk]
theorem cb_sub_i {b : Nat} {q : Int32} {r w : Nat → Int32} {k : Nat} (h : k < 5) : cb_sub b q r w k = cb_r b (w k - q * r k) := by
  unfold cb_sub
  rw [cb_mx_in (by omega) (by omega), Nat.sub_zero]
theorem cb_scl_i {b : Nat} {f : Int32} {w : Nat → Int32} {k : Nat} (h : k < 5) : cb_scl b f w k = cb_r b (w k * f) := by
  unfold cb_scl
  rw [cb_mx_in (by omega) (by omega), Nat.sub_zero]
theorem cb_tE {b : Nat} (hb : b < 5) {s : cb_T} {j : Nat} (h : cb_E b (s.2.2 j)) : cb_t s j < 2 ^ b ∧ s.2.2 j = nI (cb_t s j) := by
  obtain ⟨t, ht, e⟩ := h
  have h16 := cb_p16 hb ht
  have e2 : cb_t s j = t := by
    unfold cb_t
    rw [e]
    exact nI_clamp (by omega)
  rw [e2]
  exact ⟨ht, e⟩
theorem cb_R_st {b j : Nat} {s : cb_T} (hb : b < 5) (hj : j < 4) (h : cb_R b s) : cb_R b (cb_st b j s) := by
  obtain ⟨h1, h2, h3, h4, h5, h6⟩ := h
  unfold cb_st
  by_cases c : s.2.2 j = 0
  · rw [if_pos c]
    exact ⟨h1, h2, h3, h4, h5, h6⟩
  · rw [if_neg c]
    by_cases d : s.2.1 j ≤ cb_z b (cb_t s j)
    · rw [if_pos d]
      exact ⟨h1, h2, h3, h4, cb_sub_E hb h5, cb_sub_o h6⟩
    · rw [if_neg d]
      have w1 : ∀ k, cb_E b (cb_w1 b j s k) := cb_scl_E hb h5
      have w2 : ∀ k, 5 ≤ k → cb_w1 b j s k = 0 := cb_scl_o h6
      refine ⟨cb_mx_E w1 h1, ?_, ?_, ?_, cb_sub_E hb (cb_mx_E (fun k => h1 _) w1), cb_sub_o ?_⟩
      · intro i hi
        show cb_mx (j * 5) 5 (cb_w1 b j s) s.1 i = 0
        rw [cb_mx_out (by omega), h2 i hi]
      · intro i
        show (if i = j then cb_z b (cb_t s j) else s.2.1 i) ≤ b
        have h3j := h3 j
        have h3i := h3 i
        by_cases e : i = j
        · rw [if_pos e]
          omega
        · rw [if_neg e]
          exact h3i
      · intro i hi
        show (if i = j then cb_z b (cb_t s j) else s.2.1 i) = 0
        rw [if_neg (by omega), h4 i hi]
      · intro k hk
        rw [cb_mx_out (by omega), w2 k hk]
theorem cb_R_it {b : Nat} {s : cb_T} (hb : b < 5) (h : cb_R b s) (j : Nat) (hj : j ≤ 4) : cb_R b (cb_it b s j) := by
  induction j with
  | zero => exact h
  | succ j ih => exact cb_R_st hb (by omega) (ih (by omega))
/-- the semantics -/
def cb_ok (n b : Nat) (r x : Nat → Int32) : Prop := cb_K b * cb_val n r x = 0
def cb_L (n b : Nat) (A : Nat → Int32) (P : Nat → Nat) : Prop := ∀ i, i < n → cb_K b * (A (i * 5 + i) - nI (2 ^ P i)) = 0 ∧ ∀ v, v < i → A (i * 5 + v) = 0
def cb_H (n b : Nat) (A : Nat → Int32) (P : Nat → Nat) (i : Nat) (x : Nat → Int32) : Prop := cb_K b * nI (2 ^ (b - P i)) * cb_val n (cb_row A i) x = 0
def cb_G (n b j : Nat) (S : (Nat → Int32) → Prop) (s : cb_T) : Prop :=
  (∀ v, v < j → s.2.2 v = 0) ∧ cb_L n b s.1 s.2.1 ∧ (∀ x, S x ↔ ((∀ i, i < n → cb_ok n b (cb_row s.1 i) x) ∧ cb_ok n b s.2.2 x)) ∧
  (∀ i, i < n → ∀ x, (∀ k, i < k → k < n → cb_ok n b (cb_row s.1 k) x) → (i < j → cb_ok n b s.2.2 x) → cb_H n b s.1 s.2.1 i x)
/-- row j and the work line replaced -/
theorem cb_repl {n b j : Nat} {S : (Nat → Int32) → Prop} {s s' : cb_T} (hj : j < n) (hn : n ≤ 4) (G : cb_G n b j S s)
    (h1 : ∀ i, i ≠ j → ∀ k, k < 5 → cb_row s'.1 i k = cb_row s.1 i k) (h2 : ∀ i, i ≠ j → s'.2.1 i = s.2.1 i)
    (h3 : cb_K b * (s'.1 (j * 5 + j) - nI (2 ^ s'.2.1 j)) = 0 ∧ ∀ v, v < j → s'.1 (j * 5 + v) = 0)
    (h4 : ∀ x, (cb_ok n b (cb_row s'.1 j) x ∧ cb_ok n b s'.2.2 x) ↔ (cb_ok n b (cb_row s.1 j) x ∧ cb_ok n b s.2.2 x))
    (h5 : ∀ v, v < j + 1 → s'.2.2 v = 0)
    (h6 : ∀ x, cb_H n b s.1 s.2.1 j x → cb_ok n b s'.2.2 x → cb_H n b s'.1 s'.2.1 j x) : cb_G n b (j + 1) S s' := by
  obtain ⟨g1, g2, g3, g4⟩ := G
  have V : ∀ i, i ≠ j → ∀ x, cb_val n (cb_row s'.1 i) x = cb_val n (cb_row s.1 i) x := fun i hi x => cb_val_cg hn (h1 i hi)
  have O : ∀ i, i ≠ j → ∀ x, cb_ok n b (cb_row s'.1 i) x ↔ cb_ok n b (cb_row s.1 i) x := fun i hi x => by
    unfold cb_ok
    rw [V i hi]
  refine ⟨h5, ?_, ?_, ?_⟩
  · intro i hi
    by_cases e : i = j
    · rw [e]
      exact h3
    · rw [h2 i e]
      have a := g2 i hi
      refine ⟨?_, fun v hv => ?_⟩
      · have c : s'.1 (i * 5 + i) = s.1 (i * 5 + i) := h1 i e i (by omega)
        rw [c]
        exact a.1
      · have c : s'.1 (i * 5 + v) = s.1 (i * 5 + v) := h1 i e v (by omega)
        rw [c]
        exact a.2 v hv
  · intro x
    rw [g3 x]
    constructor
    · rintro ⟨r, w⟩
      have q := (h4 x).mpr ⟨r j hj, w⟩
      refine ⟨fun i hi => ?_, q.2⟩
      by_cases e : i = j
      · rw [e]
        exact q.1
      · exact (O i e x).mpr (r i hi)
    · rintro ⟨r, w⟩
      have q := (h4 x).mp ⟨r j hj, w⟩
      refine ⟨fun i hi => ?_, q.2⟩
      by_cases e : i = j
      · rw [e]
        exact q.1
      · exact (O i e x).mp (r i hi)
  · intro i hi x hr hw
    by_cases e : i = j
    · subst e
      refine h6 x (g4 i hi x (fun k hk hkn => (O k (by omega) x).mp (hr k hk hkn)) (fun z => absurd z (by omega))) (hw (by omega))
    · have R : cb_H n b s.1 s.2.1 i x := by
        by_cases l : i < j
        · have q := (h4 x).mp ⟨hr j l hj, hw (by omega)⟩
          refine g4 i hi x (fun k hk hkn => ?_) (fun _ => q.2)
          by_cases e2 : k = j
          · rw [e2]
            exact q.1
          · exact (O k e2 x).mp (hr k hk hkn)
        · exact g4 i hi x (fun k hk hkn => (O k (by omega) x).mp (hr k hk hkn)) (fun z => absurd z l)
      unfold cb_H at R ⊢
      rw [V i e, h2 i e]
      exact R
theorem cb_G_lo {n b j : Nat} {S : (Nat → Int32) → Prop} {s : cb_T} (hb : b < 5) (hj : j < n) (hn : n ≤ 4) (R : cb_R b s) (G : cb_G n b j S s) (d : s.2.1 j ≤ cb_z b (cb_t s j)) : cb_G n b (j + 1) S (cb_lo b j s) := by
  obtain ⟨r1, r2, r3, r4, r5, r6⟩ := R
  obtain ⟨t1, t2⟩ := cb_tE hb (r5 j)
  have G0 := G
  obtain ⟨g1, g2, g3, g4⟩ := G0
  have L := g2 j hj
  have hP := r3 j
  have hq : cb_t s j / 2 ^ s.2.1 j * 2 ^ s.2.1 j = cb_t s j := cb_zP b hb (cb_t s j) t1 _ (by omega) d
  have hq2 : nI (cb_t s j / 2 ^ s.2.1 j) * nI (2 ^ s.2.1 j) = s.2.2 j := by rw [pk_mul, hq, ← t2]
  have lin : ∀ k, k < 5 → cb_K b * (cb_lo b j s).2.2 k = cb_K b * (1 * s.2.2 k - nI (cb_t s j / 2 ^ s.2.1 j) * cb_row s.1 j k) := by
    intro k hk
    show cb_K b * cb_sub b (nI (cb_t s j / 2 ^ s.2.1 j)) (cb_row s.1 j) s.2.2 k = _
    rw [cb_sub_i hk, cb_K_r hb, Int32.one_mul]
  have hv : ∀ x, cb_K b * cb_val n (cb_lo b j s).2.2 x = cb_K b * (1 * cb_val n s.2.2 x - nI (cb_t s j / 2 ^ s.2.1 j) * cb_val n (cb_row s.1 j) x) := fun x => cb_val_lin hn lin
  refine cb_repl hj hn G (fun _ _ _ _ => rfl) (fun _ _ => rfl) L ?_ ?_ (fun x h _ => h)
  · intro x
    have h := hv x
    show (cb_ok n b (cb_row s.1 j) x ∧ cb_ok n b (cb_lo b j s).2.2 x) ↔ _
    unfold cb_ok
    rw [h]
    constructor
    · rintro ⟨a, c⟩
      exact ⟨a, by grind⟩
    · rintro ⟨a, c⟩
      exact ⟨a, by grind⟩
  · intro v hv
    show cb_sub b (nI (cb_t s j / 2 ^ s.2.1 j)) (cb_row s.1 j) s.2.2 v = 0
    by_cases e : v = j
    · rw [e]
      apply cb_E0 hb (cb_sub_E hb r5 j)
      rw [cb_sub_i (by omega), cb_K_r hb]
      have l1 := L.1
      show cb_K b * (s.2.2 j - nI (cb_t s j / 2 ^ s.2.1 j) * s.1 (j * 5 + j)) = 0
      generalize nI (cb_t s j / 2 ^ s.2.1 j) = q at hq2 ⊢
      generalize nI (2 ^ s.2.1 j) = p at hq2 l1
      generalize s.1 (j * 5 + j) = a at l1 ⊢
      generalize cb_K b = K at l1 ⊢
      rw [← hq2]
      grind
    · rw [cb_sub_i (by omega), g1 v (by omega), show cb_row s.1 j v = 0 from L.2 v (by omega), Int32.mul_zero, show (0 : Int32) - 0 = 0 from rfl, cb_r0 hb]
theorem cb_rowN {A w : Nat → Int32} {j k : Nat} (hk : k < 5) : cb_row (cb_mx (j * 5) 5 w A) j k = w k := by
  unfold cb_row
  rw [cb_mx_in (by omega) (by omega), Nat.add_sub_cancel_left]
theorem cb_rowO {A w : Nat → Int32} {i j k : Nat} (hk : k < 5) (h : i ≠ j) : cb_row (cb_mx (j * 5) 5 w A) i k = cb_row A i k := by
  unfold cb_row
  rw [cb_mx_out (by omega)]
end
section
theorem cb_g1 {K u p a : Int32} (h : K * a = K * ((u * u * u) * (u * p) - 0 * (u * p))) (Ku : K * (u * u * u * u) = K) : K * (a - p) = 0 := by
  calc K * (a - p) = K * a - K * p := by grind
    _ = K * (u * u * u * u) * p - K * p := by rw [h]; grind
    _ = 0 := by rw [Ku]; grind
theorem cb_g2 {K u q R1 R2 W1 W2 : Int32} (h1 : K * R2 = K * ((u * u * u) * W1 - 0 * W1)) (h2 : K * W2 = K * (1 * R1 - q * R2)) (Ku : K * (u * u * u * u) = K) :
    (K * R2 = 0 ∧ K * W2 = 0) ↔ (K * R1 = 0 ∧ K * W1 = 0) := by
  constructor
  · rintro ⟨a, e⟩
    constructor
    · calc K * R1 = K * (1 * R1 - q * R2) + q * (K * R2) := by grind
        _ = 0 := by rw [← h2, e, a]; grind
    · calc K * W1 = K * (u * u * u * u) * W1 := by rw [Ku]
        _ = u * (K * ((u * u * u) * W1 - 0 * W1)) := by grind
        _ = 0 := by rw [← h1, a]; grind
  · rintro ⟨a, e⟩
    have r : K * R2 = 0 := by
      calc K * R2 = K * ((u * u * u) * W1 - 0 * W1) := h1
        _ = (u * u * u) * (K * W1) := by grind
        _ = 0 := by rw [e]; grind
    refine ⟨r, ?_⟩
    calc K * W2 = K * (1 * R1 - q * R2) := h2
      _ = K * R1 - q * (K * R2) := by grind
      _ = 0 := by rw [a, r]; grind
theorem cb_g3 {K a a0 q p p0 : Int32} (p1 : q * p = p0) (l1 : K * (a0 - p0) = 0) (lead : K * (a - p) = 0) : K * (1 * a0 - q * a) = 0 := by
  rw [← p1] at l1
  calc K * (1 * a0 - q * a) = K * (a0 - q * p) - q * (K * (a - p)) := by grind
    _ = 0 := by rw [l1, lead]; grind
theorem cb_g4 {K q q2 R1 R2 : Int32} (h2 : 0 = K * (1 * R1 - q * R2)) (hH : K * q2 * R1 = 0) : K * (q2 * q) * R2 = 0 := by
  calc K * (q2 * q) * R2 = K * q2 * R1 - q2 * (K * (1 * R1 - q * R2)) := by grind
    _ = 0 := by rw [hH, ← h2]; grind
theorem cb_g5 {K a f : Int32} : K * (a * f) = K * (f * a - 0 * a) := by grind
theorem cb_g6 {K p : Int32} (h : K * p = 0) : K * (0 - p) = 0 := by
  calc K * (0 - p) = 0 - K * p := by grind
    _ = 0 := by rw [h]; grind
theorem cb_g7 {K p : Int32} (h : K * (0 - p) = 0) : K * p = 0 := by
  calc K * p = 0 - K * (0 - p) := by grind
    _ = 0 := by rw [h]; grind
theorem cb_G_hi {n b j : Nat} {S : (Nat → Int32) → Prop} {s : cb_T} (hb : b < 5) (hj : j < n) (hn : n ≤ 4) (R : cb_R b s) (G : cb_G n b j S s) (c : ¬ s.2.2 j = 0) (d : ¬ s.2.1 j ≤ cb_z b (cb_t s j)) : cb_G n b (j + 1) S (cb_hi b j s) := by
  obtain ⟨r1, r2, r3, r4, r5, r6⟩ := R
  obtain ⟨t1, t2⟩ := cb_tE hb (r5 j)
  have G0 := G
  obtain ⟨g1, g2, g3, g4⟩ := G0
  have L := g2 j hj
  have hP := r3 j
  have t0 : cb_t s j ≠ 0 := fun z => c (by rw [t2, z, nI_0])
  obtain ⟨z1, z2, z3⟩ := cb_zF b hb (cb_t s j) t1 t0
  have hu16 : cb_u b j s < 16 := Nat.lt_of_le_of_lt (Nat.div_le_self _ _) (cb_p16 hb t1)
  have Ku := cb_Ku (u := cb_u b j s) hb hu16 z2
  have wu : s.2.2 j = nI (cb_u b j s) * nI (2 ^ cb_z b (cb_t s j)) := by
    rw [pk_mul]
    show s.2.2 j = nI (cb_t s j / 2 ^ cb_z b (cb_t s j) * 2 ^ cb_z b (cb_t s j))
    rw [z3]
    exact t2
  have p1 : nI (2 ^ (s.2.1 j - cb_z b (cb_t s j))) * nI (2 ^ cb_z b (cb_t s j)) = nI (2 ^ s.2.1 j) := by
    rw [cb_pp, show s.2.1 j - cb_z b (cb_t s j) + cb_z b (cb_t s j) = s.2.1 j by omega]
  have p2 : nI (2 ^ (b - s.2.1 j)) * nI (2 ^ (s.2.1 j - cb_z b (cb_t s j))) = nI (2 ^ (b - cb_z b (cb_t s j))) := by
    rw [cb_pp, show b - s.2.1 j + (s.2.1 j - cb_z b (cb_t s j)) = b - cb_z b (cb_t s j) by omega]
  have hw1 : ∀ k, k < 5 → cb_K b * cb_w1 b j s k = cb_K b * ((nI (cb_u b j s) * nI (cb_u b j s) * nI (cb_u b j s)) * s.2.2 k - 0 * s.2.2 k) := by
    intro k hk
    unfold cb_w1
    rw [cb_scl_i hk, cb_K_r hb]
    exact cb_g5
  have nr : ∀ k, k < 5 → cb_row (cb_hi b j s).1 j k = cb_w1 b j s k := fun k hk => cb_rowN hk
  have v1 : ∀ x, cb_K b * cb_val n (cb_row (cb_hi b j s).1 j) x = cb_K b * ((nI (cb_u b j s) * nI (cb_u b j s) * nI (cb_u b j s)) * cb_val n s.2.2 x - 0 * cb_val n s.2.2 x) := fun x =>
    cb_val_lin hn (fun k hk => by rw [nr k hk]; exact hw1 k hk)
  have hw2 : ∀ k, k < 5 → cb_K b * (cb_hi b j s).2.2 k = cb_K b * (1 * cb_row s.1 j k - nI (2 ^ (s.2.1 j - cb_z b (cb_t s j))) * cb_row (cb_hi b j s).1 j k) := by
    intro k hk
    show cb_K b * cb_sub b (nI (2 ^ (s.2.1 j - cb_z b (cb_t s j)))) (cb_row (cb_hi b j s).1 j) (cb_mx 0 5 (cb_row s.1 j) (cb_w1 b j s)) k = _
    rw [cb_sub_i hk, cb_K_r hb, Int32.one_mul, cb_mx_in (by omega) (by omega), Nat.sub_zero]
  have v2 : ∀ x, cb_K b * cb_val n (cb_hi b j s).2.2 x = cb_K b * (1 * cb_val n (cb_row s.1 j) x - nI (2 ^ (s.2.1 j - cb_z b (cb_t s j))) * cb_val n (cb_row (cb_hi b j s).1 j) x) := fun x => cb_val_lin hn hw2
  have lead : cb_K b * ((cb_hi b j s).1 (j * 5 + j) - nI (2 ^ cb_z b (cb_t s j))) = 0 := by
    have e : (cb_hi b j s).1 (j * 5 + j) = cb_w1 b j s j := nr j (by omega)
    have h := hw1 j (by omega)
    rw [e]
    rw [wu] at h
    exact cb_g1 h Ku
  have zer : ∀ v, v < j → cb_w1 b j s v = 0 := by
    intro v hv
    unfold cb_w1
    rw [cb_scl_i (by omega), g1 v hv, Int32.zero_mul, cb_r0 hb]
  have pj : (cb_hi b j s).2.1 j = cb_z b (cb_t s j) := by
    show (if j = j then cb_z b (cb_t s j) else s.2.1 j) = _
    rw [if_pos rfl]
  refine cb_repl hj hn G (fun i hi k hk => cb_rowO hk hi) (fun i hi => ?_) ⟨?_, fun v hv => ?_⟩ ?_ ?_ ?_
  · show (if i = j then cb_z b (cb_t s j) else s.2.1 i) = s.2.1 i
    rw [if_neg hi]
  · rw [pj]
    exact lead
  · have e : (cb_hi b j s).1 (j * 5 + v) = cb_w1 b j s v := nr v (by omega)
    rw [e, zer v hv]
  · intro x
    have h1 := v1 x
    have h2 := v2 x
    exact cb_g2 h1 h2 Ku
  · intro v hv
    by_cases e : v = j
    · rw [e]
      have eE : cb_E b ((cb_hi b j s).2.2 j) := cb_sub_E hb (cb_mx_E (fun k => r1 _) (cb_scl_E hb r5)) j
      apply cb_E0 hb eE
      have h := hw2 j (by omega)
      have h2 : cb_row (cb_hi b j s).1 j j = (cb_hi b j s).1 (j * 5 + j) := rfl
      have h3 : cb_row s.1 j j = s.1 (j * 5 + j) := rfl
      rw [h2, h3] at h
      have l1 := L.1
      rw [h]
      exact cb_g3 p1 l1 lead
    · show cb_sub b (nI (2 ^ (s.2.1 j - cb_z b (cb_t s j)))) (cb_row (cb_hi b j s).1 j) (cb_mx 0 5 (cb_row s.1 j) (cb_w1 b j s)) v = 0
      rw [cb_sub_i (by omega), nr v (by omega), zer v (by omega), cb_mx_in (by omega) (by omega), Nat.sub_zero, show cb_row s.1 j v = 0 from L.2 v (by omega), Int32.mul_zero, show (0 : Int32) - 0 = 0 from rfl, cb_r0 hb]
  · intro x hH hw
    have h2 := v2 x
    unfold cb_H at hH ⊢
    unfold cb_ok at hw
    rw [pj, ← p2]
    rw [hw] at h2
    exact cb_g4 h2 hH
theorem cb_G_0 {n b j : Nat} {S : (Nat → Int32) → Prop} {s : cb_T} (G : cb_G n b j S s) (c : s.2.2 j = 0) : cb_G n b (j + 1) S s := by
  obtain ⟨g1, g2, g3, g4⟩ := G
  refine ⟨fun v hv => ?_, g2, g3, fun i hi x hr hw => g4 i hi x hr (fun z => hw (by omega))⟩
  by_cases e : v = j
  · rw [e, c]
  · exact g1 v (by omega)
theorem cb_G_st {n b j : Nat} {S : (Nat → Int32) → Prop} {s : cb_T} (hb : b < 5) (hj : j < n) (hn : n ≤ 4) (R : cb_R b s) (G : cb_G n b j S s) : cb_G n b (j + 1) S (cb_st b j s) := by
  unfold cb_st
  by_cases c : s.2.2 j = 0
  · rw [if_pos c]
    exact cb_G_0 G c
  · rw [if_neg c]
    by_cases d : s.2.1 j ≤ cb_z b (cb_t s j)
    · rw [if_pos d]
      exact cb_G_lo hb hj hn R G d
    · rw [if_neg d]
      exact cb_G_hi hb hj hn R G c d
theorem cb_G_it {n b : Nat} {S : (Nat → Int32) → Prop} {s : cb_T} (hb : b < 5) (hn : n ≤ 4) (R : cb_R b s) (G : cb_G n b 0 S s) (j : Nat) (hj : j ≤ n) : cb_G n b j S (cb_it b s j) := by
  induction j with
  | zero => exact G
  | succ j ih => exact cb_G_st hb (by omega) hn (cb_R_it hb R j (by omega)) (ih (by omega))
/-- basis, powers, the flag -/
abbrev cb_V : Type := (Nat → Int32) × (Nat → Nat) × Int32
def cb_VR (b : Nat) (v : cb_V) : Prop := (∀ i, cb_E b (v.1 i)) ∧ (∀ i, 20 ≤ i → v.1 i = 0) ∧ (∀ i, v.2.1 i ≤ b) ∧ (∀ i, 4 ≤ i → v.2.1 i = 0)
/-- a basis that stands for S -/
def cb_B (n b : Nat) (S : (Nat → Int32) → Prop) (v : cb_V) : Prop :=
  (v.2.2 = 0 → cb_L n b v.1 v.2.1 ∧ (∀ x, S x ↔ ∀ i, i < n → cb_ok n b (cb_row v.1 i) x) ∧ (∀ i, i < n → ∀ x, (∀ k, i < k → k < n → cb_ok n b (cb_row v.1 k) x) → cb_H n b v.1 v.2.1 i x)) ∧
  (¬ v.2.2 = 0 → ∀ x, ¬ S x)
/-- the method 'join' -/
def cb_jn (n b : Nat) (v : cb_V) (w : Nat → Int32) : cb_V :=
  ((cb_it b (v.1, v.2.1, w) n).1, (cb_it b (v.1, v.2.1, w) n).2.1, if (cb_it b (v.1, v.2.1, w) n).2.2 4 = 0 then v.2.2 else 1)
theorem cb_jn_R {n b : Nat} {v : cb_V} {w : Nat → Int32} (hb : b < 5) (hn : n ≤ 4) (h : cb_VR b v) (hw : ∀ k, cb_E b (w k)) (hw5 : ∀ k, 5 ≤ k → w k = 0) : cb_VR b (cb_jn n b v w) := by
  have R := cb_R_it (s := (v.1, v.2.1, w)) hb ⟨h.1, h.2.1, h.2.2.1, h.2.2.2, hw, hw5⟩ n hn
  exact ⟨R.1, R.2.1, R.2.2.1, R.2.2.2.1⟩
theorem cb_jn_B {n b : Nat} {v : cb_V} {w : Nat → Int32} {S S' : (Nat → Int32) → Prop} (hb : b < 5) (hn : n ≤ 4) (h : cb_VR b v) (hw : ∀ k, cb_E b (w k)) (hw5 : ∀ k, 5 ≤ k → w k = 0)
    (B : cb_B n b S v) (hS : ∀ x, S' x ↔ (S x ∧ cb_ok n b w x)) : cb_B n b S' (cb_jn n b v w) := by
  by_cases hv : v.2.2 = 0
  · obtain ⟨b1, b2, b3⟩ := B.1 hv
    have R0 : cb_R b (v.1, v.2.1, w) := ⟨h.1, h.2.1, h.2.2.1, h.2.2.2, hw, hw5⟩
    have G0 : cb_G n b 0 S' (v.1, v.2.1, w) := by
      refine ⟨fun v hv => absurd hv (by omega), b1, fun x => ?_, fun i hi x hr _ => b3 i hi x hr⟩
      rw [hS x, b2 x]
    have R := cb_R_it hb R0 n hn
    have G := cb_G_it hb hn R0 G0 n (Nat.le_refl n)
    unfold cb_B cb_jn
    generalize cb_it b (v.1, v.2.1, w) n = s at R G ⊢
    obtain ⟨g1, g2, g3, g4⟩ := G
    have hval : ∀ x, cb_val n s.2.2 x = 0 - s.2.2 4 := fun x => by
      unfold cb_val
      rw [cb_dot_0 n g1]
    by_cases e : s.2.2 4 = 0
    · have okw : ∀ x, cb_ok n b s.2.2 x := fun x => by
        unfold cb_ok
        rw [hval x, e]
        exact Int32.mul_zero
      refine ⟨fun _ => ⟨g2, fun x => ?_, fun i hi x hr => g4 i hi x hr (fun _ => okw x)⟩, fun z => ?_⟩
      · rw [g3 x]
        exact ⟨fun q => q.1, fun q => ⟨q, okw x⟩⟩
      · exact absurd (show (if s.2.2 4 = 0 then v.2.2 else 1) = 0 by rw [if_pos e]; exact hv) z
    · refine ⟨fun z => ?_, fun _ x hx => ?_⟩
      · have z2 : (if s.2.2 4 = 0 then v.2.2 else 1) = 0 := z
        rw [if_neg e] at z2
        exact absurd z2 (by decide)
      · have q := ((g3 x).mp hx).2
        unfold cb_ok at q
        rw [hval x] at q
        exact e (cb_E0 hb (R.2.2.2.2.1 4) (cb_g7 q))
  · have hn2 := B.2 hv
    have nS : ∀ x, ¬ S' x := fun x hx => hn2 x ((hS x).mp hx).1
    refine ⟨fun z => ?_, fun _ => nS⟩
    have z2 : (if (cb_it b (v.1, v.2.1, w) n).2.2 4 = 0 then v.2.2 else 1) = 0 := z
    by_cases e : (cb_it b (v.1, v.2.1, w) n).2.2 4 = 0
    · rw [if_pos e] at z2
      exact absurd z2 hv
    · rw [if_neg e] at z2
      exact absurd z2 (by decide)
/-- line i of system s -/
def cb_line (a1 : Nat → Int32) (s i : Nat) : Nat → Int32 := cb_mx 0 5 (fun k => a1 ((s * 10 + i) * 5 + k)) (fun _ => 0)
def cb_v0 (b : Nat) : cb_V := (fun _ => 0, fun j => if j < 4 then b else 0, 0)
/-- the method 'build': the basis of the first i lines -/
def cb_bd (n b : Nat) (a1 : Nat → Int32) (s : Nat) : Nat → cb_V
  | 0 => cb_v0 b
  | i + 1 => cb_jn n b (cb_bd n b a1 s i) (cb_line a1 s i)
def cb_S (n b : Nat) (a1 : Nat → Int32) (s z : Nat) (x : Nat → Int32) : Prop := ∀ i, i < z → cb_ok n b (cb_line a1 s i) x
theorem cb_line_E {b s i : Nat} {a1 : Nat → Int32} (h : ∀ k, k < 100 → cb_E b (a1 k)) (hs : s < 2) (hi : i < 10) : ∀ k, cb_E b (cb_line a1 s i k) := by
  intro k
  unfold cb_line
  by_cases c : k < 5
  · rw [cb_mx_in (by omega) (by omega)]
    exact h _ (by omega)
  · rw [cb_mx_out (by omega)]
    exact cb_Ez b
theorem cb_line_o {s i : Nat} {a1 : Nat → Int32} : ∀ k, 5 ≤ k → cb_line a1 s i k = 0 := fun k hk => by
  unfold cb_line
  rw [cb_mx_out (by omega)]
theorem cb_v0_R (b : Nat) : cb_VR b (cb_v0 b) := by
  refine ⟨fun _ => cb_Ez b, fun _ _ => rfl, fun i => ?_, fun i hi => ?_⟩
  · show (if i < 4 then b else 0) ≤ b
    by_cases c : i < 4
    · rw [if_pos c]
      exact Nat.le_refl b
    · rw [if_neg c]
      exact Nat.zero_le b
  · show (if i < 4 then b else 0) = 0
    rw [if_neg (by omega)]
theorem cb_v0_B {n b : Nat} (hb : b < 5) (hn : n ≤ 4) {S : (Nat → Int32) → Prop} (hS : ∀ x, S x) : cb_B n b S (cb_v0 b) := by
  have hval : ∀ i x, cb_val n (cb_row (cb_v0 b).1 i) x = 0 := fun i x => by
    unfold cb_val
    rw [cb_dot_0 (r := cb_row (cb_v0 b).1 i) n (fun k _ => rfl)]
    exact (show (0 : Int32) - 0 = 0 by decide)
  refine ⟨fun _ => ⟨fun i hi => ⟨?_, fun v _ => rfl⟩, fun x => ?_, fun i hi x _ => ?_⟩, fun z => absurd rfl z⟩
  · show cb_K b * ((0 : Int32) - nI (2 ^ (if i < 4 then b else 0))) = 0
    rw [if_pos (by omega)]
    exact cb_g6 (cb_Kb hb)
  · refine ⟨fun _ i _ => ?_, fun _ => hS x⟩
    unfold cb_ok
    rw [hval i x, Int32.mul_zero]
  · unfold cb_H
    rw [hval i x, Int32.mul_zero]
theorem cb_bd_R {n b s : Nat} {a1 : Nat → Int32} (hb : b < 5) (hn : n ≤ 4) (h : ∀ k, k < 100 → cb_E b (a1 k)) (hs : s < 2) (i : Nat) (hi : i ≤ 10) : cb_VR b (cb_bd n b a1 s i) := by
  induction i with
  | zero => exact cb_v0_R b
  | succ i ih => exact cb_jn_R hb hn (ih (by omega)) (cb_line_E h hs (by omega)) cb_line_o
theorem cb_bd_B {n b s : Nat} {a1 : Nat → Int32} (hb : b < 5) (hn : n ≤ 4) (h : ∀ k, k < 100 → cb_E b (a1 k)) (hs : s < 2) (i : Nat) (hi : i ≤ 10) : cb_B n b (cb_S n b a1 s i) (cb_bd n b a1 s i) := by
  induction i with
  | zero => exact cb_v0_B hb hn (fun x i hi => absurd hi (by omega))
  | succ i ih =>
    refine cb_jn_B hb hn (cb_bd_R hb hn h hs i (by omega)) (cb_line_E h hs (by omega)) cb_line_o (ih (by omega)) (fun x => ?_)
    constructor
    · intro q
      exact ⟨fun k hk => q k (by omega), q i (by omega)⟩
    · rintro ⟨q, l⟩ k hk
      by_cases e : k = i
      · rw [e]
        exact l
      · exact q k (by omega)
end
section
theorem cb_h1 {K q y ρ : Int32} (hk : K * y = K * ρ) (h : K * q * ρ = 0) : K * (q * y) = 0 := by
  calc K * (q * y) = q * (K * y) := by grind
    _ = K * q * ρ := by rw [hk]; grind
    _ = 0 := h
theorem cb_h2 {K z y ρ : Int32} (hk : K * y = K * ρ) : K * (ρ + z) = K * (y + z) := by
  calc K * (ρ + z) = K * ρ + K * z := by grind
    _ = K * (y + z) := by rw [← hk]; grind
theorem cb_h3 {K q p V y : Int32} (Hj : K * q * V = 0) (e2 : K * (q * p) = 0) : K * q * (V - p * y) = 0 := by
  calc K * q * (V - p * y) = K * q * V - K * (q * p) * y := by grind
    _ = 0 := by rw [Hj, e2]; grind
theorem cb_h4 {K a a4 D p y y0 : Int32} (lj : K * (a - p) = 0) : K * (D + a * (y - y0) - a4) = K * (D - a4 - p * y0 + p * y) := by
  calc K * (D + a * (y - y0) - a4) = K * (D - a4 - p * y0 + p * y) + K * (a - p) * (y - y0) := by grind
    _ = K * (D - a4 - p * y0 + p * y) := by rw [lj]; grind
theorem cb_h5 {K d c : Int32} (k : K * (d - c) = 0) : K * (0 - d + 1 * c) = 0 := by
  calc K * (0 - d + 1 * c) = 0 - K * (d - c) := by grind
    _ = 0 := by rw [k]; grind
theorem cb_h6 {K d c : Int32} (k : K * (0 - d + 1 * c) = 0) : K * (d - c) = 0 := by
  calc K * (d - c) = 0 - K * (0 - d + 1 * c) := by grind
    _ = 0 := by rw [k]; grind
noncomputable def cb_ind (p : Prop) : Nat := @ite Nat p (Classical.propDecidable p) 1 0
theorem cb_ind_t {p : Prop} (h : p) : cb_ind p = 1 := by
  unfold cb_ind
  rw [if_pos h]
theorem cb_ind_f {p : Prop} (h : ¬ p) : cb_ind p = 0 := by
  unfold cb_ind
  rw [if_neg h]
def cb_sum (f : Nat → Nat) : Nat → Nat
  | 0 => 0
  | k + 1 => cb_sum f k + f k
/-- how many ways to fill in the unknowns below j -/
noncomputable def cb_C (M : Nat) (S : (Nat → Int32) → Prop) : Nat → (Nat → Int32) → Nat
  | 0, x => cb_ind (S x)
  | j + 1, x => cb_sum (fun t => cb_C M S j (upd x j (nI t))) M
theorem cb_sum_cg {f g : Nat → Nat} (m : Nat) (h : ∀ t, t < m → f t = g t) : cb_sum f m = cb_sum g m := by
  induction m with
  | zero => rfl
  | succ m ih =>
    show cb_sum f m + f m = cb_sum g m + g m
    rw [ih (fun t ht => h t (by omega)), h m (by omega)]
theorem cb_sum_0 {f : Nat → Nat} (m : Nat) (h : ∀ t, t < m → f t = 0) : cb_sum f m = 0 := by
  induction m with
  | zero => rfl
  | succ m ih =>
    show cb_sum f m + f m = 0
    rw [ih (fun t ht => h t (by omega)), h m (by omega)]
theorem cb_sum_mul (f : Nat → Nat) (c m : Nat) : cb_sum (fun t => f t * c) m = cb_sum f m * c := by
  induction m with
  | zero => exact (Nat.zero_mul c).symm
  | succ m ih =>
    show cb_sum (fun t => f t * c) m + f m * c = (cb_sum f m + f m) * c
    rw [ih, Nat.add_mul]
theorem cb_sum_add (f g : Nat → Nat) (m : Nat) : cb_sum (fun t => f t + g t) m = cb_sum f m + cb_sum g m := by
  induction m with
  | zero => rfl
  | succ m ih =>
    show cb_sum (fun t => f t + g t) m + (f m + g m) = (cb_sum f m + f m) + (cb_sum g m + g m)
    rw [ih]
    omega
theorem cb_sum_swap (f : Nat → Nat → Nat) (k m : Nat) : cb_sum (fun c => cb_sum (fun t => f c t) m) k = cb_sum (fun t => cb_sum (fun c => f c t) k) m := by
  induction k with
  | zero => exact (cb_sum_0 m (fun _ _ => rfl)).symm
  | succ k ih =>
    show cb_sum (fun c => cb_sum (fun t => f c t) m) k + cb_sum (fun t => f k t) m = cb_sum (fun t => cb_sum (fun c => f c t) k + f k t) m
    rw [ih, cb_sum_add]
theorem cb_cntN : ∀ b, b < 5 → ∀ p, p < 5 → p ≤ b → ∀ τ, τ < 2 ^ b → (2 ^ (b - p) * τ) % 2 ^ b = 0 → cb_sum (fun t => if (τ + 2 ^ p * t) % 2 ^ b = 0 then 1 else 0) (2 ^ b) = 2 ^ p := by decide +kernel
theorem cb_cnt1 {b p : Nat} (hb : b < 5) (hp : p ≤ b) (ρ : Int32) (h : cb_K b * nI (2 ^ (b - p)) * ρ = 0) : cb_sum (fun t => cb_ind (cb_K b * (ρ + nI (2 ^ p) * nI t) = 0)) (2 ^ b) = 2 ^ p := by
  obtain ⟨τ, hτ, e⟩ := cb_r_E hb ρ
  have hk := cb_K_r hb ρ
  rw [e] at hk
  have h0 : (2 ^ (b - p) * τ) % 2 ^ b = 0 := by
    apply cb_K0 hb
    rw [← pk_mul]
    exact cb_h1 hk h
  have E : ∀ t, cb_K b * (ρ + nI (2 ^ p) * nI t) = cb_K b * nI (τ + 2 ^ p * t) := by
    intro t
    rw [← nI_add, ← pk_mul]
    exact cb_h2 hk
  refine Eq.trans (cb_sum_cg _ (fun t ht => ?_)) (cb_cntN b hb p (by omega) hp τ hτ h0)
  rw [E t]
  by_cases c : (τ + 2 ^ p * t) % 2 ^ b = 0
  · rw [if_pos c, cb_ind_t (cb_K0i hb c)]
  · rw [if_neg c, cb_ind_f (fun z => c (cb_K0 hb z))]
def cb_ps (P : Nat → Nat) : Nat → Nat
  | 0 => 0
  | j + 1 => cb_ps P j + P j
theorem cb_cnt {n b : Nat} {S : (Nat → Int32) → Prop} {v : cb_V} (hb : b < 5) (hn : n ≤ 4) (R : cb_VR b v) (hv : v.2.2 = 0) (B : cb_B n b S v) (j : Nat) : j ≤ n → ∀ x,
    ((∀ i, j ≤ i → i < n → cb_ok n b (cb_row v.1 i) x) → cb_C (2 ^ b) S j x = 2 ^ cb_ps v.2.1 j) ∧
    ((∃ i, j ≤ i ∧ i < n ∧ ¬ cb_ok n b (cb_row v.1 i) x) → cb_C (2 ^ b) S j x = 0) := by
  obtain ⟨L, hS, H⟩ := B.1 hv
  induction j with
  | zero =>
    intro _ x
    refine ⟨fun h => ?_, fun ⟨i, _, hi, h⟩ => ?_⟩
    · exact cb_ind_t ((hS x).mpr (fun i hi => h i (by omega) hi))
    · exact cb_ind_f (fun z => h ((hS x).mp z i hi))
  | succ j ih =>
    intro hj x
    have ih := ih (by omega)
    have up : ∀ i, j < i → i < n → ∀ t, cb_ok n b (cb_row v.1 i) (upd x j (nI t)) ↔ cb_ok n b (cb_row v.1 i) x := by
      intro i hji hi t
      have z : cb_row v.1 i j = 0 := (L i hi).2 j hji
      unfold cb_ok cb_val
      rw [cb_dot_up n (by omega), z, Int32.zero_mul, Int32.add_zero]
    refine ⟨fun h => ?_, fun ⟨i, hji, hi, h⟩ => ?_⟩
    · have hp := R.2.2.1 j
      have lj := (L j (by omega)).1
      have Hj := H j (by omega) x (fun k hk hkn => h k (by omega) hkn)
      unfold cb_H at Hj
      have hρ : cb_K b * nI (2 ^ (b - v.2.1 j)) * (cb_val n (cb_row v.1 j) x - nI (2 ^ v.2.1 j) * x j) = 0 := by
        have e1 : nI (2 ^ (b - v.2.1 j)) * nI (2 ^ v.2.1 j) = nI (2 ^ b) := by
          rw [cb_pp, show b - v.2.1 j + v.2.1 j = b by omega]
        have e2 := cb_Kb hb
        rw [← e1] at e2
        exact cb_h3 Hj e2
      have E : ∀ t, cb_C (2 ^ b) S j (upd x j (nI t)) = cb_ind (cb_K b * ((cb_val n (cb_row v.1 j) x - nI (2 ^ v.2.1 j) * x j) + nI (2 ^ v.2.1 j) * nI t) = 0) * 2 ^ cb_ps v.2.1 j := by
        intro t
        have e : cb_K b * cb_val n (cb_row v.1 j) (upd x j (nI t)) = cb_K b * ((cb_val n (cb_row v.1 j) x - nI (2 ^ v.2.1 j) * x j) + nI (2 ^ v.2.1 j) * nI t) := by
          unfold cb_val
          rw [cb_dot_up n (by omega)]
          have lj2 : cb_K b * (cb_row v.1 j j - nI (2 ^ v.2.1 j)) = 0 := lj
          exact cb_h4 lj2
        by_cases c : cb_ok n b (cb_row v.1 j) (upd x j (nI t))
        · rw [cb_ind_t (by rw [← e]; exact c), Nat.one_mul]
          refine (ih _).1 (fun i hi hin => ?_)
          by_cases ei : i = j
          · rw [ei]
            exact c
          · exact (up i (by omega) hin t).mpr (h i (by omega) hin)
        · rw [cb_ind_f (by rw [← e]; exact c), Nat.zero_mul]
          exact (ih _).2 ⟨j, Nat.le_refl j, by omega, c⟩
      show cb_sum (fun t => cb_C (2 ^ b) S j (upd x j (nI t))) (2 ^ b) = 2 ^ (cb_ps v.2.1 j + v.2.1 j)
      rw [cb_sum_cg (2 ^ b) (fun t _ => E t), cb_sum_mul, cb_cnt1 hb hp _ hρ, Nat.pow_add, Nat.mul_comm]
    · exact cb_sum_0 _ (fun t _ => (ih _).2 ⟨i, by omega, hi, fun z => h ((up i (by omega) hi t).mp z)⟩)
theorem cb_C_0 {M : Nat} {S : (Nat → Int32) → Prop} (h : ∀ x, ¬ S x) (j : Nat) : ∀ x, cb_C M S j x = 0 := by
  induction j with
  | zero => exact fun x => cb_ind_f (h x)
  | succ j ih => exact fun x => cb_sum_0 _ (fun t _ => ih _)
/-- the method 'total' -/
def cb_tot (n : Nat) (v : cb_V) : Nat := if v.2.2 = 0 then 2 ^ cb_ps v.2.1 n else 0
theorem cb_tot_C {n b : Nat} {S : (Nat → Int32) → Prop} {v : cb_V} (hb : b < 5) (hn : n ≤ 4) (R : cb_VR b v) (B : cb_B n b S v) (x : Nat → Int32) : cb_tot n v = cb_C (2 ^ b) S n x := by
  unfold cb_tot
  by_cases hv : v.2.2 = 0
  · rw [if_pos hv]
    exact ((cb_cnt hb hn R hv B n (Nat.le_refl n) x).1 (fun i h1 h2 => absurd h1 (by omega))).symm
  · rw [if_neg hv]
    exact (cb_C_0 (B.2 hv) n x).symm
theorem cb_split {b M : Nat} (hb : b < 5) {S : (Nat → Int32) → Prop} {Sc : Nat → (Nat → Int32) → Prop} (δ : (Nat → Int32) → Int32) (h : ∀ c, c < 2 ^ b → ∀ x, Sc c x ↔ (S x ∧ cb_K b * (δ x - nI c) = 0)) (j : Nat) :
    ∀ x, cb_sum (fun c => cb_C M (Sc c) j x) (2 ^ b) = cb_C M S j x := by
  induction j with
  | zero =>
    intro x
    show cb_sum (fun c => cb_ind (Sc c x)) (2 ^ b) = cb_ind (S x)
    by_cases s : S x
    · rw [cb_ind_t s]
      have q := cb_cnt1 (p := 0) hb (Nat.zero_le b) (0 - δ x) (by rw [Nat.sub_zero, cb_Kb hb, Int32.zero_mul])
      rw [Nat.pow_zero] at q
      refine Eq.trans (cb_sum_cg _ (fun c hc => ?_)) q
      by_cases k : cb_K b * (δ x - nI c) = 0
      · rw [cb_ind_t ((h c hc x).mpr ⟨s, k⟩), cb_ind_t]
        rw [show nI 1 = (1 : Int32) from rfl]
        exact cb_h5 k
      · rw [cb_ind_f (fun z => k ((h c hc x).mp z).2), cb_ind_f]
        intro z
        apply k
        rw [show nI 1 = (1 : Int32) from rfl] at z
        exact cb_h6 z
    · rw [cb_ind_f s]
      exact cb_sum_0 _ (fun c hc => cb_ind_f (fun z => s ((h c hc x).mp z).1))
  | succ j ih =>
    intro x
    show cb_sum (fun c => cb_sum (fun t => cb_C M (Sc c) j (upd x j (nI t))) M) (2 ^ b) = cb_sum (fun t => cb_C M S j (upd x j (nI t))) M
    rw [cb_sum_swap]
    exact cb_sum_cg M (fun t _ => ih _)
theorem cb_ps_le {b : Nat} {P : Nat → Nat} (h : ∀ i, P i ≤ b) (n : Nat) : cb_ps P n ≤ n * b := by
  induction n with
  | zero => exact Nat.zero_le _
  | succ n ih =>
    have a := h n
    show cb_ps P n + P n ≤ (n + 1) * b
    rw [Nat.add_mul]
    omega
/-- digits: the least value of unknown j -/
def cb_rs (A : Nat → Int32) (j : Nat) (x : Nat → Int32) : Nat → Int32
  | 0 => A (j * 5 + 4)
  | k + 1 => cb_rs A j x k - A (j * 5 + (j + 1 + k)) * x (j + 1 + k)
def cb_le (n b : Nat) (A : Nat → Int32) (P : Nat → Nat) (j : Nat) (x : Nat → Int32) : Nat := (cb_r b (cb_rs A j x (n - 1 - j))).toNatClampNeg / 2 ^ P j
theorem cb_rs_cg {A x y : Nat → Int32} {j : Nat} (k : Nat) (h : ∀ v, j < v → v < j + 1 + k → x v = y v) : cb_rs A j x k = cb_rs A j y k := by
  induction k with
  | zero => rfl
  | succ k ih =>
    show cb_rs A j x k - A (j * 5 + (j + 1 + k)) * x (j + 1 + k) = cb_rs A j y k - A (j * 5 + (j + 1 + k)) * y (j + 1 + k)
    rw [ih (fun v h1 h2 => h v h1 (by omega)), h (j + 1 + k) (by omega) (by omega)]
theorem cb_le_cg {n b : Nat} {A x y : Nat → Int32} {P : Nat → Nat} {j : Nat} (hj : j < n) (h : ∀ v, j < v → v < n → x v = y v) : cb_le n b A P j x = cb_le n b A P j y := by
  unfold cb_le
  rw [cb_rs_cg (n - 1 - j) (fun v h1 h2 => h v h1 (by omega))]
theorem cb_rC {b : Nat} (hb : b < 5) (a : Int32) : (cb_r b a).toNatClampNeg < 2 ^ b ∧ cb_r b a = nI (cb_r b a).toNatClampNeg := by
  obtain ⟨t, ht, e⟩ := cb_r_E hb a
  have h16 := cb_p16 hb ht
  rw [e, nI_clamp (by omega)]
  exact ⟨ht, rfl⟩
theorem cb_le_lt {n b : Nat} {A x : Nat → Int32} {P : Nat → Nat} {j : Nat} (hb : b < 5) (hP : P j ≤ b) : cb_le n b A P j x < 2 ^ (b - P j) := by
  unfold cb_le
  apply Nat.div_lt_of_lt_mul
  rw [← Nat.pow_add, show P j + (b - P j) = b by omega]
  exact (cb_rC hb _).1
/-- digit j at index l -/
def cb_X (n b : Nat) (A : Nat → Int32) (P : Nat → Nat) (j l : Nat) (x : Nat → Int32) : Nat := cb_le n b A P j x + l / 2 ^ cb_ps P j * 2 ^ (b - P j)
/-- the number that the unknowns below j make at index l -/
def cb_nv (n b : Nat) (A : Nat → Int32) (P : Nat → Nat) : Nat → Nat → (Nat → Int32) → Nat
  | 0, _, _ => 0
  | j + 1, l, x => cb_X n b A P j l x * 2 ^ (j * b) + cb_nv n b A P j (l % 2 ^ cb_ps P j) (upd x j (nI (cb_X n b A P j l x)))
theorem cb_k_lt {P : Nat → Nat} {j l : Nat} (h : l < 2 ^ cb_ps P (j + 1)) : l / 2 ^ cb_ps P j < 2 ^ P j := by
  apply Nat.div_lt_of_lt_mul
  rw [← Nat.pow_add]
  exact h
theorem cb_X_lt {n b : Nat} {A x : Nat → Int32} {P : Nat → Nat} {j l : Nat} (hb : b < 5) (hP : P j ≤ b) (h : l < 2 ^ cb_ps P (j + 1)) : cb_X n b A P j l x < 2 ^ b := by
  have h1 := cb_le_lt (n := n) (A := A) (x := x) (j := j) hb hP
  have h2 := cb_k_lt h
  have e : 2 ^ P j * 2 ^ (b - P j) = 2 ^ b := by rw [← Nat.pow_add, show P j + (b - P j) = b by omega]
  unfold cb_X
  have h3 : (l / 2 ^ cb_ps P j + 1) * 2 ^ (b - P j) ≤ 2 ^ P j * 2 ^ (b - P j) := Nat.mul_le_mul_right _ h2
  rw [Nat.add_mul, Nat.one_mul] at h3
  omega
theorem cb_nv_lt {n b : Nat} {A : Nat → Int32} {P : Nat → Nat} (hb : b < 5) (hP : ∀ i, P i ≤ b) (j : Nat) : ∀ l x, l < 2 ^ cb_ps P j → cb_nv n b A P j l x < 2 ^ (j * b) := by
  induction j with
  | zero =>
    intro l x _
    exact Nat.two_pow_pos _
  | succ j ih =>
    intro l x h
    have h1 := cb_X_lt (n := n) (A := A) (x := x) hb (hP j) h
    have h2 := ih (l % 2 ^ cb_ps P j) (upd x j (nI (cb_X n b A P j l x))) (Nat.mod_lt _ (Nat.two_pow_pos _))
    show cb_X n b A P j l x * 2 ^ (j * b) + cb_nv n b A P j (l % 2 ^ cb_ps P j) (upd x j (nI (cb_X n b A P j l x))) < 2 ^ ((j + 1) * b)
    have h3 : (cb_X n b A P j l x + 1) * 2 ^ (j * b) ≤ 2 ^ b * 2 ^ (j * b) := Nat.mul_le_mul_right _ h1
    rw [Nat.add_mul, Nat.one_mul, ← Nat.pow_add, show b + j * b = (j + 1) * b by rw [Nat.add_mul, Nat.one_mul, Nat.add_comm]] at h3
    omega
theorem cb_nv_0 {n b : Nat} {A : Nat → Int32} {P : Nat → Nat} (j : Nat) : ∀ l x, l < 2 ^ cb_ps P j → cb_nv n b A P j l x = 0 → l = 0 := by
  induction j with
  | zero =>
    intro l x h _
    have h2 : l < 1 := h
    omega
  | succ j ih =>
    intro l x h e
    have e2 : cb_X n b A P j l x * 2 ^ (j * b) + cb_nv n b A P j (l % 2 ^ cb_ps P j) (upd x j (nI (cb_X n b A P j l x))) = 0 := e
    have e3 := ih _ _ (Nat.mod_lt _ (Nat.two_pow_pos _)) (Nat.eq_zero_of_add_eq_zero_left e2)
    have e4 := (Nat.mul_eq_zero.mp (Nat.eq_zero_of_add_eq_zero_right e2)).resolve_right (Nat.ne_of_gt (Nat.two_pow_pos _))
    unfold cb_X at e4
    have e5 := (Nat.mul_eq_zero.mp (Nat.eq_zero_of_add_eq_zero_left e4)).resolve_right (Nat.ne_of_gt (Nat.two_pow_pos _))
    have e6 := Nat.mod_add_div l (2 ^ cb_ps P j)
    rw [e3, e5, Nat.mul_zero] at e6
    omega
end
section
section
variable {N B M bad : Int32} {a1 a2 a3 a4 a5 a6 a7 : Nat → Int32}
theorem cb_wSys {post : Int32 → Prop} {s : Nat} (hs : s < 2) (h : post 1) : wpX_isSystem post () (nI s) :=
  pk_eq s 0 (fun _ => h) (fun e => pk_eq s 1 (fun _ => h) (fun e2 => absurd hs (by omega)))
theorem cb_wRed {post : Int32 → Prop} {p : Int32} {b : Nat} (h : post (cb_r b p)) : wpX_reduced post (N, B, nI (2 ^ b), bad, a1, a2, a3, a4, a5, a6, a7) p := h
theorem cb_mx_z {g f : Nat → Int32} (c : Nat) (h : ∀ k, c ≤ k → f k = 0) : cb_mx 0 c g f = cb_mx 0 c g (fun _ => 0) := by
  funext k
  by_cases e : k < c
  · rw [cb_mx_in (by omega) (by omega), cb_mx_in (by omega) (by omega)]
  · rw [cb_mx_out (by omega), cb_mx_out (by omega), h k (by omega)]
theorem cb_mx_zz (c : Nat) : cb_mx 0 c (fun _ => 0) (fun _ => 0) = fun _ => 0 := by
  funext k
  unfold cb_mx
  by_cases e : 0 ≤ k ∧ k < 0 + c
  · rw [if_pos e]
  · rw [if_neg e]
theorem cb_w28 {post : St2 → Prop} {b : Nat} (h5 : ∀ i, 4 ≤ i → a5 i = 0)
    (hp : post (N, nI b, M, bad, a1, a2, a3, a4, (fun j => nI (if j < 4 then b else 0)), a6, a7)) : ∃ n, wX_startBasis_28 post N (nI b) M bad n 0 a1 a2 a3 a4 a5 a6 a7 := by
  refine pk_loop (fun n i s => wX_startBasis_28 post N (nI b) M bad n (nI i) a1 a2 a3 a4 s a6 a7) (fun i s => s = cb_mx 0 i (fun _ => nI b) a5) 4 0 a5 (by omega) (cb_mx_0 0 _ a5).symm
    (fun n s h => pk_le 4 4 (fun _ => ?_) (fun z => absurd z (by omega))) (fun n i s hi h hw => pk_le 4 i (fun z => absurd z (by omega)) (fun _ => ⟨pk_in i 4 hi, nm_e (nm_r (nI_1 i) (hw _ ?_))⟩))
  · have e : s = fun j => nI (if j < 4 then b else 0) := by
      rw [h]
      funext k
      by_cases c : k < 4
      · rw [cb_mx_in (by omega) (by omega), if_pos c]
      · rw [cb_mx_out (by omega), h5 k (by omega), if_neg c, nI_0]
    rw [e]
    exact hp
  · rw [h]
    exact cb_mx_up (by rw [nI_clamp (by omega), Nat.zero_add]) rfl
theorem cb_wStart {post : St2 → Prop} {b : Nat} (h4 : ∀ i, 20 ≤ i → a4 i = 0) (h5 : ∀ i, 4 ≤ i → a5 i = 0)
    (hp : post (N, nI b, M, 0, a1, a2, a3, (fun _ => 0), (fun j => nI (if j < 4 then b else 0)), a6, a7)) : wpX_startBasis post (N, nI b, M, bad, a1, a2, a3, a4, a5, a6, a7) := by
  show ∃ n, wX_startBasis_7 post N (nI b) M 0 n 0 a1 a2 a3 a4 a5 a6 a7
  refine pk_loop (fun n i s => wX_startBasis_7 post N (nI b) M 0 n (nI i) a1 a2 a3 s a5 a6 a7) (fun i s => s = cb_mx 0 i (fun _ => 0) a4) 20 0 a4 (by omega) (cb_mx_0 0 _ a4).symm
    (fun n s h => pk_le 20 20 (fun _ => ?_) (fun z => absurd z (by omega))) (fun n i s hi h hw => pk_le 20 i (fun z => absurd z (by omega)) (fun _ => ⟨pk_in i 20 hi, nm_e (nm_r (nI_1 i) (hw _ ?_))⟩))
  · have e : s = fun _ => 0 := by
      rw [h, cb_mx_z 20 h4, cb_mx_zz]
    rw [e]
    exact cb_w28 h5 hp
  · rw [h]
    exact cb_mx_up (by rw [nI_clamp (by omega), Nat.zero_add]) rfl
theorem cb_ix (s i : Nat) : ((nI s * 10) + nI i) * 5 = nI ((s * 10 + i) * 5) := by
  rw [show (10 : Int32) = nI 10 from rfl, show (5 : Int32) = nI 5 from rfl, pk_mul, nI_add, pk_mul]
theorem cb_ix5 (j k : Nat) : (nI j * 5) + nI k = nI (j * 5 + k) := by
  rw [show (5 : Int32) = nI 5 from rfl, pk_mul, nI_add]
theorem cb_wLoad {post : St2 → Prop} {s i : Nat} (hs : s < 2) (hi : i < 10) (h6 : ∀ k, 5 ≤ k → a6 k = 0)
    (hp : post (N, B, M, bad, a1, a2, a3, a4, a5, cb_line a1 s i, a7)) : wpX_loadLine post (N, B, M, bad, a1, a2, a3, a4, a5, a6, a7) (nI s) (nI i) := by
  show ∀ x3, x3 = ((nI s * 10) + nI i) * 5 → ∃ n, wX_loadLine_12 post x3 N B M bad n 0 a1 a2 a3 a4 a5 a6 a7
  rw [cb_ix]
  refine nm_e ?_
  refine pk_loop (fun n k w => wX_loadLine_12 post (nI ((s * 10 + i) * 5)) N B M bad n (nI k) a1 a2 a3 a4 a5 w a7) (fun k w => w = cb_mx 0 k (fun k => a1 ((s * 10 + i) * 5 + k)) a6) 5 0 a6 (by omega) (cb_mx_0 0 _ a6).symm
    (fun n w h => pk_le 5 5 (fun _ => ?_) (fun z => absurd z (by omega)))
    (fun n k w hk h hw => pk_le 5 k (fun z => absurd z (by omega)) (fun _ => ⟨pk_in ((s * 10 + i) * 5 + k) 100 (by omega) (nI_add _ _), pk_in k 5 hk, nm_e (nm_r (nI_1 k) (hw _ ?_))⟩))
  · have e : w = cb_line a1 s i := by
      rw [h]
      exact cb_mx_z 5 h6
    rw [e]
    exact hp
  · rw [h]
    refine cb_mx_up (by rw [nI_clamp (by omega), Nat.zero_add]) ?_
    rw [nI_add, nI_clamp (by omega)]
theorem cb_wZ2 {post : Int32 → Prop} {b t : Nat} (hb : b < 5) (ht : t < 16) : ∀ f k, k + f = b → post (nI (cb_zl t f k)) → wX_zeros_2 post (nI t) N (nI b) M bad a1 a2 a3 a4 a5 a6 a7 (f + 1) (nI k) := by
  intro f
  induction f with
  | zero =>
    intro k hk hp
    have e : k = b := by omega
    rw [e] at hp ⊢
    exact pk_le b b (fun _ => hp) (fun z => absurd z (by omega))
  | succ f ih =>
    intro k hk hp
    have bit : (nI t >>> (nI k &&& 31)) &&& 1 = nI (t / 2 ^ k % 2) := by
      rw [cb_shrN (by omega) (by omega)]
      exact pk_andN (Nat.lt_of_le_of_lt (Nat.div_le_self _ _) (by omega)) 1 (by decide)
    have h2 : t / 2 ^ k % 2 < 2 := Nat.mod_lt _ (by decide)
    refine pk_le b k (fun z => absurd z (by omega)) (fun _ => pk_eq (t / 2 ^ k % 2) 1 (fun e => ?_) (fun e => nm_r (nI_1 k) (ih (k + 1) (by omega) ?_)) bit rfl)
    · have q : cb_zl t (f + 1) k = k := if_pos e
      rw [q] at hp
      exact hp
    · have q : cb_zl t (f + 1) k = cb_zl t f (k + 1) := if_neg e
      rw [q] at hp
      exact hp
theorem cb_wZeros {post : Int32 → Prop} {b t : Nat} (hb : b < 5) (ht : t < 16) (hp : post (nI (cb_z b t))) : wpX_zeros post (N, nI b, M, bad, a1, a2, a3, a4, a5, a6, a7) (nI t) :=
  ⟨b + 1, cb_wZ2 hb ht b 0 (by omega) hp⟩
theorem cb_wSub {post : St2 → Prop} {b j : Nat} {q : Int32} (hj : j < 4)
    (hp : post (N, B, nI (2 ^ b), bad, a1, a2, a3, a4, a5, cb_sub b q (cb_row a4 j) a6, a7)) : wpX_subtract post (N, B, nI (2 ^ b), bad, a1, a2, a3, a4, a5, a6, a7) (nI j) q := by
  show ∃ n, wX_subtract_2 post (nI j) q N B (nI (2 ^ b)) bad n 0 a1 a2 a3 a4 a5 a6 a7
  refine pk_loop (fun n k w => wX_subtract_2 post (nI j) q N B (nI (2 ^ b)) bad n (nI k) a1 a2 a3 a4 a5 w a7) (fun k w => w = cb_mx 0 k (fun k => cb_r b (a6 k - q * cb_row a4 j k)) a6) 5 0 a6 (by omega) (cb_mx_0 0 _ a6).symm
    (fun n w h => pk_le 5 5 (fun _ => ?_) (fun z => absurd z (by omega)))
    (fun n k w hk h hw => pk_le 5 k (fun z => absurd z (by omega)) (fun _ => ⟨pk_in k 5 hk, pk_in (j * 5 + k) 20 (by omega) (cb_ix5 j k), cb_wRed ⟨pk_in k 5 hk, nm_e (nm_r (nI_1 k) (hw _ ?_))⟩⟩))
  · rw [h]
    exact hp
  · rw [h]
    refine cb_mx_up (by rw [nI_clamp (by omega), Nat.zero_add]) ?_
    rw [cb_ix5, nI_clamp (by omega), nI_clamp (by omega), cb_mx_out (by omega)]
    rfl
theorem cb_wScl {post : St2 → Prop} {b : Nat} {q : Int32}
    (hp : post (N, B, nI (2 ^ b), bad, a1, a2, a3, a4, a5, cb_scl b q a6, a7)) : wpX_scaleWork post (N, B, nI (2 ^ b), bad, a1, a2, a3, a4, a5, a6, a7) q := by
  show ∃ n, wX_scaleWork_2 post q N B (nI (2 ^ b)) bad n 0 a1 a2 a3 a4 a5 a6 a7
  refine pk_loop (fun n k w => wX_scaleWork_2 post q N B (nI (2 ^ b)) bad n (nI k) a1 a2 a3 a4 a5 w a7) (fun k w => w = cb_mx 0 k (fun k => cb_r b (a6 k * q)) a6) 5 0 a6 (by omega) (cb_mx_0 0 _ a6).symm
    (fun n w h => pk_le 5 5 (fun _ => ?_) (fun z => absurd z (by omega)))
    (fun n k w hk h hw => pk_le 5 k (fun z => absurd z (by omega)) (fun _ => ⟨pk_in k 5 hk, cb_wRed ⟨pk_in k 5 hk, nm_e (nm_r (nI_1 k) (hw _ ?_))⟩⟩))
  · rw [h]
    exact hp
  · rw [h]
    refine cb_mx_up (by rw [nI_clamp (by omega), Nat.zero_add]) ?_
    rw [nI_clamp (by omega), cb_mx_out (by omega)]
theorem cb_wExch {post : St2 → Prop} {j : Nat} (hj : j < 4)
    (hp : post (N, B, M, bad, a1, a2, a3, cb_mx (j * 5) 5 a6 a4, a5, cb_mx 0 5 (cb_row a4 j) a6, a7)) : wpX_exchange post (N, B, M, bad, a1, a2, a3, a4, a5, a6, a7) (nI j) := by
  show ∃ n, wX_exchange_2 post (nI j) N B M bad n 0 a1 a2 a3 a4 a5 a6 a7
  refine pk_loop (fun n k (s : (Nat → Int32) × (Nat → Int32)) => wX_exchange_2 post (nI j) N B M bad n (nI k) a1 a2 a3 s.1 a5 s.2 a7) (fun k s => s.1 = cb_mx (j * 5) k a6 a4 ∧ s.2 = cb_mx 0 k (cb_row a4 j) a6) 5 0 (a4, a6) (by omega) ⟨(cb_mx_0 _ _ a4).symm, (cb_mx_0 0 _ a6).symm⟩
    (fun n s h => pk_le 5 5 (fun _ => ?_) (fun z => absurd z (by omega)))
    (fun n k s hk h hw => pk_le 5 k (fun z => absurd z (by omega)) (fun _ => ⟨pk_in (j * 5 + k) 20 (by omega) (cb_ix5 j k), nm_e ⟨pk_in k 5 hk, pk_in (j * 5 + k) 20 (by omega) (cb_ix5 j k), nm_e ⟨pk_in k 5 hk, nm_e (nm_r (nI_1 k) (hw (_, _) ⟨?_, ?_⟩))⟩⟩⟩))
  · rw [h.1, h.2]
    exact hp
  · show upd s.1 _ _ = _
    rw [h.1, h.2, cb_ix5, nI_clamp (by omega), nI_clamp (by omega)]
    exact cb_mx_up rfl (by rw [cb_mx_out (by omega)])
  · show upd s.2 _ _ = _
    rw [h.1, h.2, cb_ix5, nI_clamp (by omega), nI_clamp (by omega)]
    exact cb_mx_up (by omega) (by rw [cb_mx_out (by omega)]; rfl)
end
end
section
section
variable {bad : Int32} {a1 a2 a3 a4 a5 a6 a7 : Nat → Int32}
theorem cb_upN_eq {P : Nat → Nat} {j z : Nat} : upd (fun i => nI (P i)) j (nI z) = fun i => nI (cb_upN P j z i) := by
  funext i
  unfold cb_upN
  by_cases e : i = j
  · rw [e, pk_us, if_pos rfl]
  · rw [pk_un e, if_neg e]
theorem cb_wJ2 {post : St2 → Prop} {n b : Nat} {s0 : cb_T} (hb : b < 5) (hn : n ≤ 4) (R : cb_R b s0)
    (hp : post (nI n, nI b, nI (2 ^ b), (if (cb_it b s0 n).2.2 4 = 0 then bad else 1), a1, a2, a3, (cb_it b s0 n).1, (fun i => nI ((cb_it b s0 n).2.1 i)), (cb_it b s0 n).2.2, a7)) :
    ∃ f, wX_join_2 post f 0 (nI n) (nI b) (nI (2 ^ b)) bad a1 a2 a3 s0.1 (fun i => nI (s0.2.1 i)) s0.2.2 a7 := by
  refine pk_loop (fun f j (s : cb_T) => wX_join_2 post f (nI j) (nI n) (nI b) (nI (2 ^ b)) bad a1 a2 a3 s.1 (fun i => nI (s.2.1 i)) s.2.2 a7) (fun j s => s = cb_it b s0 j) n 0 s0 (by omega) rfl
    (fun f s h => pk_le n n (fun _ => ?_) (fun z => absurd z (by omega)))
    (fun f j s hj h hw => ?_)
  · rw [h]
    refine br_c (fun e => ?_) (fun e => ?_)
    · rw [if_pos e] at hp
      exact hp
    · rw [if_neg e] at hp
      exact hp
  · have Rj : cb_R b s := by
      rw [h]
      exact cb_R_it hb R j (by omega)
    obtain ⟨t1, t2⟩ := cb_tE hb (Rj.2.2.2.2.1 j)
    have t16 := cb_p16 hb t1
    have hP := Rj.2.2.1 j
    have st : ∀ s', s' = cb_st b j s → s' = cb_it b s0 (j + 1) := fun s' e => by
      rw [e, h]
      rfl
    refine pk_le n j (fun z => absurd z (by omega)) (fun _ => ⟨pk_in j 5 (by omega), ?_⟩)
    rw [nI_clamp (show j < 2 ^ 31 by omega)]
    refine br_c (fun e => nm_r (nI_1 j) (hw s (st s (by unfold cb_st; rw [if_pos e])))) (fun e => ⟨pk_in j 5 (by omega), ?_⟩)
    have t0 : cb_t s j ≠ 0 := fun z => e (by rw [t2, z, nI_0])
    obtain ⟨z1, z2, z3⟩ := cb_zF b hb (cb_t s j) t1 t0
    rw [t2]
    refine cb_wZeros hb t16 ⟨pk_in j 4 (by omega), nm_e (pk_le (s.2.1 j) (cb_z b (cb_t s j)) (fun d => ⟨pk_in j 5 (by omega), ?_⟩) (fun d => ⟨pk_in j 5 (by omega), ?_⟩))⟩
    · rw [cb_shrN (by omega) (by omega)]
      exact cb_wSub (by omega) (nm_r (nI_1 j) (hw (cb_lo b j s) (st _ (by unfold cb_st; rw [if_neg e, if_pos d]))))
    · rw [cb_shrN (by omega) (by omega), pk_sub (by omega), cb_shl1 (by omega)]
      exact nm_e (cb_wScl (cb_wExch (by omega) ⟨pk_in j 4 (by omega), nm_r cb_upN_eq (cb_wSub (by omega) (nm_r (nI_1 j) (hw (cb_hi b j s) (st _ (by unfold cb_st; rw [if_neg e, if_neg (by omega)])))))⟩))
theorem cb_wJoin {post : St2 → Prop} {n b : Nat} {v : cb_V} {w : Nat → Int32} (hb : b < 5) (hn : n ≤ 4) (R : cb_VR b v) (hw : ∀ k, cb_E b (w k)) (hw5 : ∀ k, 5 ≤ k → w k = 0)
    (hp : ∀ w', (∀ k, 5 ≤ k → w' k = 0) → post (nI n, nI b, nI (2 ^ b), (cb_jn n b v w).2.2, a1, a2, a3, (cb_jn n b v w).1, (fun i => nI ((cb_jn n b v w).2.1 i)), w', a7)) :
    wpX_join post (nI n, nI b, nI (2 ^ b), v.2.2, a1, a2, a3, v.1, (fun i => nI (v.2.1 i)), w, a7) := by
  have R0 : cb_R b (v.1, v.2.1, w) := ⟨R.1, R.2.1, R.2.2.1, R.2.2.2, hw, hw5⟩
  exact cb_wJ2 (s0 := (v.1, v.2.1, w)) hb hn R0 (hp _ (cb_R_it hb R0 n hn).2.2.2.2.2)
theorem cb_wJA {post : St2 → Prop} {n b s z : Nat} (hb : b < 5) (hn : n ≤ 4) (hs : s < 2) (hz : z ≤ 10) (h1 : ∀ k, k < 100 → cb_E b (a1 k)) (h2 : a2 s = nI z) (h6 : ∀ k, 5 ≤ k → a6 k = 0)
    (hp : ∀ w', (∀ k, 5 ≤ k → w' k = 0) → post (nI n, nI b, nI (2 ^ b), (cb_bd n b a1 s z).2.2, a1, a2, a3, (cb_bd n b a1 s z).1, (fun i => nI ((cb_bd n b a1 s z).2.1 i)), w', a7)) :
    ∃ f, wX_joinAll_2 post (nI s) f 0 (nI n) (nI b) (nI (2 ^ b)) 0 a1 a2 a3 (fun _ => 0) (fun j => nI (if j < 4 then b else 0)) a6 a7 := by
  refine pk_loop (fun f i (u : cb_V × (Nat → Int32)) => wX_joinAll_2 post (nI s) f (nI i) (nI n) (nI b) (nI (2 ^ b)) u.1.2.2 a1 a2 a3 u.1.1 (fun j => nI (u.1.2.1 j)) u.2 a7) (fun i u => u.1 = cb_bd n b a1 s i ∧ ∀ k, 5 ≤ k → u.2 k = 0) z 0 (cb_v0 b, a6) (by omega) ⟨rfl, h6⟩
    (fun f u h => ⟨pk_in s 2 hs, ?_⟩)
    (fun f i u hi h hw => ⟨pk_in s 2 hs, ?_⟩)
  · rw [nI_clamp (show s < 2 ^ 31 by omega), h2]
    refine pk_le z z (fun _ => ?_) (fun q => absurd q (by omega))
    rw [h.1]
    exact hp _ h.2
  · rw [nI_clamp (show s < 2 ^ 31 by omega), h2]
    refine pk_le z i (fun q => absurd q (by omega)) (fun _ => ?_)
    refine cb_wLoad hs (by omega) h.2 ?_
    refine cb_wJoin hb hn (by rw [h.1]; exact cb_bd_R hb hn h1 hs i (by omega)) (cb_line_E h1 hs (by omega)) cb_line_o (fun w' hw' => nm_r (nI_1 i) (hw (cb_jn n b u.1 (cb_line a1 s i), w') ⟨?_, hw'⟩))
    show cb_jn n b u.1 (cb_line a1 s i) = cb_jn n b (cb_bd n b a1 s i) (cb_line a1 s i)
    rw [h.1]
/-- what is at rest between the calls: nothing beyond the arrays' ends -/
def cb_Z (a4 a5 a6 : Nat → Int32) : Prop := (∀ i, 20 ≤ i → a4 i = 0) ∧ (∀ i, 4 ≤ i → a5 i = 0) ∧ (∀ i, 5 ≤ i → a6 i = 0)
theorem cb_Z_v {b : Nat} {v : cb_V} {w : Nat → Int32} (R : cb_VR b v) (hw : ∀ k, 5 ≤ k → w k = 0) : cb_Z v.1 (fun i => nI (v.2.1 i)) w :=
  ⟨R.2.1, fun i hi => by show nI (v.2.1 i) = 0; rw [R.2.2.2 i hi, nI_0], hw⟩
theorem cb_wBuild {post : St2 → Prop} {n b s z : Nat} (hb : b < 5) (hn : n ≤ 4) (hs : s < 2) (hz : z ≤ 10) (h1 : ∀ k, k < 100 → cb_E b (a1 k)) (h2 : a2 s = nI z) (hZ : cb_Z a4 a5 a6)
    (hp : ∀ w', (∀ k, 5 ≤ k → w' k = 0) → post (nI n, nI b, nI (2 ^ b), (cb_bd n b a1 s z).2.2, a1, a2, a3, (cb_bd n b a1 s z).1, (fun i => nI ((cb_bd n b a1 s z).2.1 i)), w', a7)) :
    wpX_build post (nI n, nI b, nI (2 ^ b), bad, a1, a2, a3, a4, a5, a6, a7) (nI s) := by
  unfold wpX_build
  exact cb_wStart hZ.1 hZ.2.1 (cb_wJA hb hn hs hz h1 h2 hZ.2.2 hp)
theorem cb_wCh {post : Int32 → Prop} {N B M : Int32} {P : Nat → Nat} {j : Nat} (hj : j ≤ 4) (hp : post (nI (cb_ps P j))) : wpX_choiceBits post (N, B, M, bad, a1, a2, a3, a4, (fun i => nI (P i)), a6, a7) (nI j) := by
  show ∃ f, wX_choiceBits_4 post (nI j) N B M bad a1 a2 a3 a4 (fun i => nI (P i)) a6 a7 f 0 0
  refine pk_loop (fun f i (_ : Unit) => wX_choiceBits_4 post (nI j) N B M bad a1 a2 a3 a4 (fun i => nI (P i)) a6 a7 f (nI (cb_ps P i)) (nI i)) (fun _ _ => True) j 0 () (by omega) trivial
    (fun f _ _ => pk_le j j (fun _ => hp) (fun z => absurd z (by omega)))
    (fun f i _ hi _ hw => pk_le j i (fun z => absurd z (by omega)) (fun _ => ⟨pk_in i 4 (by omega), nm_r ?_ (nm_r (nI_1 i) (hw () trivial))⟩))
  rw [nI_clamp (by omega)]
  exact nI_add _ _
theorem cb_wTot {post : Int32 → Prop} {n b : Nat} {v : cb_V} {B M : Int32} (hb : b < 5) (hn : n ≤ 4) (R : cb_VR b v) (hp : post (nI (cb_tot n v))) : wpX_total post (nI n, B, M, v.2.2, a1, a2, a3, v.1, (fun i => nI (v.2.1 i)), a6, a7) := by
  have hps := cb_ps_le R.2.2.1 n
  have hnb : n * b ≤ 16 := Nat.mul_le_mul (show n ≤ 4 from hn) (show b ≤ 4 by omega)
  refine br_c (fun e => cb_wCh hn ?_) (fun e => ?_)
  · unfold cb_tot at hp
    rw [if_pos e] at hp
    rw [cb_shl1 (by omega)]
    exact hp
  · unfold cb_tot at hp
    rw [if_neg e] at hp
    exact hp
/-- the basis of system s -/
def cb_sv (n b : Nat) (a1 a2 : Nat → Int32) (s : Nat) : cb_V := cb_bd n b a1 s (a2 s).toNatClampNeg
/-- lines, sizes, draft -/
def cb_I (b : Nat) (a1 a2 a3 : Nat → Int32) : Prop := (∀ k, k < 100 → cb_E b (a1 k)) ∧ (∀ s, s < 2 → ∃ z, z ≤ 10 ∧ a2 s = nI z) ∧ (∀ k, k < 5 → cb_E b (a3 k))
theorem cb_sv_R {n b s : Nat} (hb : b < 5) (hn : n ≤ 4) (hs : s < 2) (hI : cb_I b a1 a2 a3) : cb_VR b (cb_sv n b a1 a2 s) := by
  obtain ⟨z, hz, e⟩ := hI.2.1 s hs
  unfold cb_sv
  rw [e, nI_clamp (by omega)]
  exact cb_bd_R hb hn hI.1 hs z hz
theorem cb_sv_B {n b s : Nat} (hb : b < 5) (hn : n ≤ 4) (hs : s < 2) (hI : cb_I b a1 a2 a3) : ∃ S, cb_B n b S (cb_sv n b a1 a2 s) := by
  obtain ⟨z, hz, e⟩ := hI.2.1 s hs
  unfold cb_sv
  rw [e, nI_clamp (by omega)]
  exact ⟨_, cb_bd_B hb hn hI.1 hs z hz⟩
theorem cb_wBd {post : St2 → Prop} {n b s : Nat} (hb : b < 5) (hn : n ≤ 4) (hs : s < 2) (hI : cb_I b a1 a2 a3) (hZ : cb_Z a4 a5 a6)
    (hp : ∀ w', (∀ k, 5 ≤ k → w' k = 0) → post (nI n, nI b, nI (2 ^ b), (cb_sv n b a1 a2 s).2.2, a1, a2, a3, (cb_sv n b a1 a2 s).1, (fun i => nI ((cb_sv n b a1 a2 s).2.1 i)), w', a7)) :
    wpX_build post (nI n, nI b, nI (2 ^ b), bad, a1, a2, a3, a4, a5, a6, a7) (nI s) := by
  obtain ⟨z, hz, e⟩ := hI.2.1 s hs
  unfold cb_sv at hp
  rw [e, nI_clamp (by omega)] at hp
  exact cb_wBuild hb hn hs hz hI.1 e hZ hp
theorem cb_wSol {post : Int32 → St2 → Prop} {n b s : Nat} (hb : b < 5) (hn : n ≤ 4) (hs : s < 2) (hI : cb_I b a1 a2 a3) (hZ : cb_Z a4 a5 a6)
    (hp : ∀ bad' a4' a5' a6' a7', cb_Z a4' a5' a6' → post (nI (cb_tot n (cb_sv n b a1 a2 s))) (nI n, nI b, nI (2 ^ b), bad', a1, a2, a3, a4', a5', a6', a7')) :
    wpX_solutions post (nI n, nI b, nI (2 ^ b), bad, a1, a2, a3, a4, a5, a6, a7) (nI s) := by
  have R := cb_sv_R (n := n) hb hn hs hI
  unfold wpX_solutions
  refine cb_wSys hs (br_f (by decide) ?_)
  exact cb_wBd hb hn hs hI hZ (fun w' hw' => cb_wTot hb hn R (hp _ _ _ _ _ (cb_Z_v R hw')))
/-- the draft with the right side c -/
def cb_dl (b : Nat) (a3 : Nat → Int32) (c : Int32) : Nat → Int32 := upd (upd (cb_mx 0 5 (fun k => cb_r b (a3 k * 1)) (fun _ => 0)) 4 0) 4 (cb_r b c)
theorem cb_wDraftL {post : St2 → Prop} {N B : Int32} {b : Nat} (h6 : ∀ k, 5 ≤ k → a6 k = 0)
    (hp : post (N, B, nI (2 ^ b), bad, a1, a2, a3, a4, a5, upd (cb_mx 0 5 (fun k => cb_r b (a3 k * 1)) (fun _ => 0)) 4 0, a7)) : wpX_loadDraft post (N, B, nI (2 ^ b), bad, a1, a2, a3, a4, a5, a6, a7) 1 := by
  show ∃ n, wX_loadDraft_2 post 1 N B (nI (2 ^ b)) bad n 0 a1 a2 a3 a4 a5 a6 a7
  refine pk_loop (fun n k w => wX_loadDraft_2 post 1 N B (nI (2 ^ b)) bad n (nI k) a1 a2 a3 a4 a5 w a7) (fun k w => w = cb_mx 0 k (fun k => cb_r b (a3 k * 1)) a6) 5 0 a6 (by omega) (cb_mx_0 0 _ a6).symm
    (fun n w h => pk_le 5 5 (fun _ => nm_e ?_) (fun z => absurd z (by omega)))
    (fun n k w hk h hw => pk_le 5 k (fun z => absurd z (by omega)) (fun _ => ⟨pk_in k 5 hk, cb_wRed ⟨pk_in k 5 hk, nm_e (nm_r (nI_1 k) (hw _ ?_))⟩⟩))
  · rw [h, cb_mx_z 5 h6]
    exact hp
  · rw [h]
    refine cb_mx_up (by rw [nI_clamp (by omega), Nat.zero_add]) ?_
    rw [nI_clamp (by omega)]
theorem cb_dl_4 {b : Nat} {c : Int32} : cb_dl b a3 c 4 = cb_r b c := pk_us
theorem cb_dl_i {b k : Nat} {c : Int32} (h : k < 4) : cb_dl b a3 c k = cb_r b (a3 k * 1) := by
  unfold cb_dl
  rw [pk_un (by omega), pk_un (by omega), cb_mx_in (by omega) (by omega), Nat.sub_zero]
theorem cb_dl_o {b : Nat} {c : Int32} : ∀ k, 5 ≤ k → cb_dl b a3 c k = 0 := fun k hk => by
  unfold cb_dl
  rw [pk_un (by omega), pk_un (by omega), cb_mx_out (by omega)]
theorem cb_dl_E {b : Nat} (hb : b < 5) {c : Int32} : ∀ k, cb_E b (cb_dl b a3 c k) := fun k => by
  by_cases h : k < 4
  · rw [cb_dl_i h]
    exact cb_r_E hb _
  · by_cases h2 : k = 4
    · rw [h2, cb_dl_4]
      exact cb_r_E hb _
    · rw [cb_dl_o k (by omega)]
      exact cb_Ez b
theorem cb_wCnt {post : Int32 → St2 → Prop} {n b s : Nat} {c : Int32} (hb : b < 5) (hn : n ≤ 4) (hs : s < 2) (hI : cb_I b a1 a2 a3) (hZ : cb_Z a4 a5 a6)
    (hp : ∀ bad' a4' a5' a6' a7', cb_Z a4' a5' a6' → post (nI (cb_tot n (cb_jn n b (cb_sv n b a1 a2 s) (cb_dl b a3 c)))) (nI n, nI b, nI (2 ^ b), bad', a1, a2, a3, a4', a5', a6', a7')) :
    wpX_countAt post (nI n, nI b, nI (2 ^ b), bad, a1, a2, a3, a4, a5, a6, a7) (nI s) c := by
  have R := cb_sv_R (n := n) hb hn hs hI
  have R2 : cb_VR b (cb_jn n b (cb_sv n b a1 a2 s) (cb_dl b a3 c)) := cb_jn_R hb hn R (cb_dl_E hb) cb_dl_o
  unfold wpX_countAt
  refine cb_wSys hs (br_f (by decide) ?_)
  exact cb_wBd hb hn hs hI hZ (fun w' hw' => cb_wDraftL hw' (cb_wRed (nm_e (cb_wJoin hb hn R (cb_dl_E (a3 := a3) (c := c) hb) cb_dl_o (fun w2 hw2 => cb_wTot hb hn R2 (hp _ _ _ _ _ (cb_Z_v R2 hw2)))))))
/-- solutions = the sum of countAt -/
theorem cb_split2 {n b s : Nat} (hb : b < 5) (hn : n ≤ 4) (hs : s < 2) (hI : cb_I b a1 a2 a3) :
    cb_sum (fun c => cb_tot n (cb_jn n b (cb_sv n b a1 a2 s) (cb_dl b a3 (nI c)))) (2 ^ b) = cb_tot n (cb_sv n b a1 a2 s) := by
  have R := cb_sv_R (n := n) hb hn hs hI
  obtain ⟨S, hB⟩ := cb_sv_B (n := n) hb hn hs hI
  have h16 := cb_p16le hb
  rw [cb_tot_C hb hn R hB (fun _ => 0)]
  rw [← cb_split (M := 2 ^ b) hb (S := S) (Sc := fun c x => S x ∧ cb_ok n b (cb_dl b a3 (nI c)) x) (fun x => cb_dot (cb_dl b a3 0) x n) ?_ n (fun _ => 0)]
  · apply cb_sum_cg
    intro c hc
    exact cb_tot_C hb hn (cb_jn_R hb hn R (cb_dl_E hb) cb_dl_o) (cb_jn_B hb hn R (cb_dl_E hb) cb_dl_o hB (fun x => Iff.rfl)) _
  · intro c hc x
    have e : cb_val n (cb_dl b a3 (nI c)) x = cb_dot (cb_dl b a3 0) x n - nI c := by
      unfold cb_val
      rw [cb_dl_4, cb_rN hb (by omega), Nat.mod_eq_of_lt hc, cb_dot_cg (r' := cb_dl b a3 0) (x' := x) n (fun k hk => by rw [cb_dl_i (by omega), cb_dl_i (by omega)])]
    show (S x ∧ cb_K b * cb_val n (cb_dl b a3 (nI c)) x = 0) ↔ _
    rw [e]
end
end
section
section
variable {bad : Int32} {a1 a2 a3 a4 a5 a6 a7 : Nat → Int32}
theorem cb_wLeast {post : Int32 → Prop} {n b j : Nat} {B : Int32} {A : Nat → Int32} {P : Nat → Nat} (hb : b < 5) (hn : n ≤ 4) (hj : j < n) (hP : P j ≤ b) (hp : post (nI (cb_le n b A P j a7))) :
    wpX_least post (nI n, B, nI (2 ^ b), bad, a1, a2, a3, A, (fun i => nI (P i)), a6, a7) (nI j) := by
  have e4 : (nI j * 5) + 4 = nI (j * 5 + 4) := cb_ix5 j 4
  show vp_in ((nI j * 5) + 4) 20 ∧ ∀ x2, x2 = A ((nI j * 5) + 4).toNatClampNeg → ∀ x3, x3 = nI j + 1 → ∃ f, wX_least_15 post (nI j) (nI n) B (nI (2 ^ b)) bad a1 a2 a3 A (fun i => nI (P i)) a6 a7 f x2 x3
  rw [e4, nI_clamp (by omega)]
  refine ⟨pk_in (j * 5 + 4) 20 (by omega), nm_e (nm_r (nI_1 j) ?_)⟩
  refine pk_loop (fun f k (_ : Unit) => wX_least_15 post (nI j) (nI n) B (nI (2 ^ b)) bad a1 a2 a3 A (fun i => nI (P i)) a6 a7 f (cb_rs A j a7 k) (nI (j + 1 + k))) (fun _ _ => True) (n - 1 - j) 0 () (by omega) trivial
    (fun f _ _ => pk_le n (j + 1 + (n - 1 - j)) (fun _ => cb_wRed ⟨pk_in j 4 (by omega), ?_⟩) (fun z => absurd z (by omega)))
    (fun f k _ hk _ hw => pk_le n (j + 1 + k) (fun z => absurd z (by omega)) (fun _ => ⟨pk_in (j * 5 + (j + 1 + k)) 20 (by omega) (cb_ix5 _ _), pk_in (j + 1 + k) 4 (by omega), nm_r ?_ (nm_r (nI_1 _) (hw () trivial))⟩))
  · obtain ⟨r1, r2⟩ := cb_rC hb (cb_rs A j a7 (n - 1 - j))
    have h16 := cb_p16 hb r1
    unfold cb_le at hp
    rw [r2, nI_clamp (show j < 2 ^ 31 by omega)]
    rw [cb_shrN (by omega) (by omega)]
    exact hp
  · rw [cb_ix5, nI_clamp (by omega), nI_clamp (by omega)]
    rfl
theorem cb_wN42 {post : Int32 → St2 → Prop} {n b : Nat} {A : Nat → Int32} {P : Nat → Nat} (hb : b < 5) (hn : n ≤ 4) (hP : ∀ i, P i ≤ b) (i : Nat) : i ≤ n → ∀ l num (a7 : Nat → Int32), l < 2 ^ cb_ps P i →
    (∀ a7', post (nI (num * 2 ^ (i * b) + cb_nv n b A P i l a7)) (nI n, nI b, nI (2 ^ b), bad, a1, a2, a3, A, (fun i => nI (P i)), a6, a7')) →
    wX_nth_42 post (nI n) (nI b) (nI (2 ^ b)) bad (i + 1) (nI l) (nI num) (nI i + (-1)) a1 a2 a3 A (fun i => nI (P i)) a6 a7 := by
  induction i with
  | zero =>
    intro _ l num a7 hl hp
    refine br_t (by decide) ?_
    have h := hp a7
    rw [Nat.zero_mul, Nat.pow_zero, Nat.mul_one] at h
    exact h
  | succ i ih =>
    intro hi l num a7 hl hp
    have hPi := hP i
    have hps := cb_ps_le hP i
    have hps2 := cb_ps_le hP (i + 1)
    have hib : i * b ≤ 12 := Nat.mul_le_mul (show i ≤ 3 by omega) (show b ≤ 4 by omega)
    have hib2 : (i + 1) * b ≤ 16 := Nat.mul_le_mul (show i + 1 ≤ 4 by omega) (show b ≤ 4 by omega)
    have hl16 : l < 65536 := Nat.lt_of_lt_of_le hl (Nat.pow_le_pow_right (n := 2) (by decide) (show cb_ps P (i + 1) ≤ 16 by omega))
    have hk := cb_k_lt hl
    have hX := cb_X_lt (n := n) (A := A) (x := a7) hb hPi hl
    have hX16 := cb_p16 hb hX
    have hkl : l / 2 ^ cb_ps P i * 2 ^ cb_ps P i ≤ l := Nat.div_mul_le_self _ _
    have hmod : l - l / 2 ^ cb_ps P i * 2 ^ cb_ps P i = l % 2 ^ cb_ps P i := by
      have h := Nat.mod_add_div l (2 ^ cb_ps P i)
      rw [Nat.mul_comm] at h
      omega
    have hkX : l / 2 ^ cb_ps P i * 2 ^ (b - P i) ≤ cb_X n b A P i l a7 := Nat.le_add_left _ _
    rw [pk_m1]
    refine br_f (nI_pos (by omega)) (cb_wCh (by omega) (nm_r (cb_shrN (by omega) (by omega)) (nm_r ?_ (cb_wLeast hb hn (by omega) hPi ⟨pk_in i 4 (by omega), pk_in i 4 (by omega), nm_r (e' := upd a7 i (nI (cb_X n b A P i l a7))) ?_ ⟨pk_in i 4 (by omega), nm_r ?_ (nm_e (ih (by omega) (l % 2 ^ cb_ps P i) (num * 2 ^ b + cb_X n b A P i l a7) (upd a7 i (nI (cb_X n b A P i l a7))) (Nat.mod_lt _ (Nat.two_pow_pos _)) ?_))⟩⟩))))
    · rw [cb_shlN (by omega) (by omega), pk_sub (by omega), hmod]
    · rw [nI_clamp (by omega), pk_sub (by omega), cb_shlN (by omega) (by omega), nI_add]
      rfl
    · rw [nI_clamp (by omega), pk_us, pk_mul, nI_add]
    · intro a7'
      have h := hp a7'
      have e : num * 2 ^ ((i + 1) * b) + cb_nv n b A P (i + 1) l a7 = (num * 2 ^ b + cb_X n b A P i l a7) * 2 ^ (i * b) + cb_nv n b A P i (l % 2 ^ cb_ps P i) (upd a7 i (nI (cb_X n b A P i l a7))) := by
        show num * 2 ^ ((i + 1) * b) + (cb_X n b A P i l a7 * 2 ^ (i * b) + cb_nv n b A P i (l % 2 ^ cb_ps P i) (upd a7 i (nI (cb_X n b A P i l a7)))) = _
        rw [Nat.add_mul (num * 2 ^ b), Nat.mul_assoc, ← Nat.pow_add, show b + i * b = (i + 1) * b by rw [Nat.add_mul, Nat.one_mul, Nat.add_comm], Nat.add_assoc]
      rw [e] at h
      exact h
theorem cb_tot_lt {n b : Nat} {v : cb_V} {l : Nat} (h : l < cb_tot n v) : v.2.2 = 0 ∧ cb_tot n v = 2 ^ cb_ps v.2.1 n ∧ l < 2 ^ cb_ps v.2.1 n := by
  unfold cb_tot at h ⊢
  by_cases e : v.2.2 = 0
  · rw [if_pos e] at h ⊢
    exact ⟨e, rfl, h⟩
  · rw [if_neg e] at h
    exact absurd h (by omega)
theorem cb_tot16 {n b : Nat} {v : cb_V} (hb : b < 5) (hn : n ≤ 4) (R : cb_VR b v) : cb_tot n v ≤ 65536 := by
  have hps := cb_ps_le R.2.2.1 n
  have hnb : n * b ≤ 16 := Nat.mul_le_mul (show n ≤ 4 from hn) (show b ≤ 4 by omega)
  unfold cb_tot
  by_cases e : v.2.2 = 0
  · rw [if_pos e]
    exact Nat.pow_le_pow_right (n := 2) (by decide) (show cb_ps v.2.1 n ≤ 16 by omega)
  · rw [if_neg e]
    omega
theorem cb_wNth {post : Int32 → St2 → Prop} {n b s l : Nat} (hb : b < 5) (hn : n ≤ 4) (hs : s < 2) (hI : cb_I b a1 a2 a3) (hZ : cb_Z a4 a5 a6) (hl : l < cb_tot n (cb_sv n b a1 a2 s))
    (hp : ∀ bad' a4' a5' a6' a7', cb_Z a4' a5' a6' → post (nI (cb_nv n b (cb_sv n b a1 a2 s).1 (cb_sv n b a1 a2 s).2.1 n l a7)) (nI n, nI b, nI (2 ^ b), bad', a1, a2, a3, a4', a5', a6', a7')) :
    wpX_nth post (nI n, nI b, nI (2 ^ b), bad, a1, a2, a3, a4, a5, a6, a7) (nI s) (nI l) := by
  have R := cb_sv_R (n := n) hb hn hs hI
  have h16 := cb_tot16 hb hn R
  obtain ⟨t1, t2, t3⟩ := cb_tot_lt (b := b) hl
  unfold wpX_nth
  refine cb_wSys hs (br_f (by decide) ?_)
  refine cb_wBd hb hn hs hI hZ (fun w' hw' => br_f (nI_pos (by omega)) (cb_wTot hb hn R (pk_lt l (cb_tot n (cb_sv n b a1 a2 s)) (fun _ => nm_r (Int32.sub_eq_add_neg _ _) ⟨n + 1, ?_⟩) (fun z => absurd z (by omega)))))
  refine cb_wN42 hb hn R.2.2.1 n (Nat.le_refl n) l 0 a7 t3 (fun a7' => ?_)
  rw [Nat.zero_mul, Nat.zero_add]
  exact hp _ _ _ _ _ (cb_Z_v R hw')
theorem cb_w139 {post : Int32 → St2 → Prop} {J : Int32 → Int32 → (Nat → Int32) → (Nat → Int32) → (Nat → Int32) → (Nat → Int32) → (Nat → Int32) → (Nat → Int32) → (Nat → Int32) → Prop} {N B M x2 : Int32} {cnt i F k g X : Nat} (hi : i < 4) (hX : X = F + k * 2 ^ g) (hX16 : X < 16) (hg : g < 5)
    (h : J (nI cnt) (nI i + (-1)) a1 a2 a3 a4 a5 a6 (upd a7 i (nI X))) : wX_below_139 post J x2 (nI cnt) (nI i) (nI X) (nI F) (nI g) N B M bad a1 a2 a3 a4 a5 a6 a7 := by
  have e : (nI X - nI F) &&& (((1 : Int32) <<< (nI g &&& 31)) - 1) = 0 := by
    rw [pk_sub (by omega), cb_shl1 (by omega), show X - F = k * 2 ^ g by omega]
    show cb_r g (nI (k * 2 ^ g)) = 0
    rw [cb_rN hg (by omega), Nat.mul_mod_left, nI_0]
  unfold wX_below_139
  rw [nI_clamp (show i < 2 ^ 31 by omega)]
  exact pk_lt X F (fun z => absurd z (by omega)) (fun _ => br_t e ⟨pk_in i 4 hi, nm_e (nm_e h)⟩)
theorem cb_kg {k g : Nat} (hk : 0 < k) : (k * 2 ^ g - 1) / 2 ^ g + 1 = k := by
  have hg := Nat.two_pow_pos g
  obtain ⟨m, rfl⟩ : ∃ m, k = m + 1 := ⟨k - 1, by omega⟩
  have e : (m + 1) * 2 ^ g - 1 = (2 ^ g - 1) + 2 ^ g * m := by
    rw [Nat.add_mul, Nat.one_mul, Nat.mul_comm]
    omega
  rw [e, Nat.add_mul_div_left _ _ hg, Nat.div_eq_of_lt (by omega), Nat.zero_add]
theorem cb_wB57 {post : Int32 → St2 → Prop} {n b V : Nat} {A : Nat → Int32} {P : Nat → Nat} (hb : b < 5) (hn : n ≤ 4) (hV : V < 65536) (hP : ∀ i, P i ≤ b) (i : Nat) : i ≤ n → ∀ l cnt (x y : Nat → Int32), l < 2 ^ cb_ps P i → (∀ v, i ≤ v → v < n → x v = y v) →
    V % 2 ^ (i * b) = cb_nv n b A P i l x →
    (∀ a7', post (nI (cnt + l)) (nI n, nI b, nI (2 ^ b), bad, a1, a2, a3, A, (fun i => nI (P i)), a6, a7')) →
    wX_below_57 post (nI V) (nI n) (nI b) (nI (2 ^ b)) bad (i + 1) (nI cnt) (nI i + (-1)) a1 a2 a3 A (fun i => nI (P i)) a6 y := by
  induction i with
  | zero =>
    intro _ l cnt x y hl _ _ hp
    have hl1 : l < 1 := hl
    have h := hp y
    rw [show cnt + l = cnt by omega] at h
    exact br_t (by decide) h
  | succ i ih =>
    intro hi l cnt x y hl hxy hv hp
    have hPi := hP i
    have hps := cb_ps_le hP i
    have hps2 := cb_ps_le hP (i + 1)
    have hib : i * b ≤ 12 := Nat.mul_le_mul (show i ≤ 3 by omega) (show b ≤ 4 by omega)
    have hib2 : (i + 1) * b ≤ 16 := Nat.mul_le_mul (show i + 1 ≤ 4 by omega) (show b ≤ 4 by omega)
    have hl16 : l < 65536 := Nat.lt_of_lt_of_le hl (Nat.pow_le_pow_right (n := 2) (by decide) (show cb_ps P (i + 1) ≤ 16 by omega))
    have hk := cb_k_lt hl
    have hX := cb_X_lt (n := n) (A := A) (x := x) hb hPi hl
    have hX16 := cb_p16 hb hX
    have hkl : l / 2 ^ cb_ps P i * 2 ^ cb_ps P i ≤ l := Nat.div_mul_le_self _ _
    have hmod : l / 2 ^ cb_ps P i * 2 ^ cb_ps P i + l % 2 ^ cb_ps P i = l := by
      have h := Nat.mod_add_div l (2 ^ cb_ps P i)
      rw [Nat.mul_comm] at h
      omega
    have hnv := cb_nv_lt (n := n) (A := A) hb hP i (l % 2 ^ cb_ps P i) (upd x i (nI (cb_X n b A P i l x))) (Nat.mod_lt _ (Nat.two_pow_pos _))
    have hv2 : V % (2 ^ (i * b) * 2 ^ b) = cb_nv n b A P i (l % 2 ^ cb_ps P i) (upd x i (nI (cb_X n b A P i l x))) + 2 ^ (i * b) * cb_X n b A P i l x := by
      rw [← Nat.pow_add, show i * b + b = (i + 1) * b by rw [Nat.add_mul, Nat.one_mul], hv]
      show cb_X n b A P i l x * 2 ^ (i * b) + cb_nv n b A P i (l % 2 ^ cb_ps P i) (upd x i (nI (cb_X n b A P i l x))) = _
      rw [Nat.mul_comm, Nat.add_comm]
    have dig : V / 2 ^ (i * b) % 2 ^ b = cb_X n b A P i l x := by
      rw [← Nat.mod_mul_right_div_self, hv2, Nat.add_mul_div_left _ _ (Nat.two_pow_pos _), Nat.div_eq_of_lt hnv, Nat.zero_add]
    have low : V % 2 ^ (i * b) = cb_nv n b A P i (l % 2 ^ cb_ps P i) (upd x i (nI (cb_X n b A P i l x))) := by
      rw [← Nat.mod_mul_right_mod V (2 ^ (i * b)) (2 ^ b), hv2, Nat.add_mul_mod_self_left, Nat.mod_eq_of_lt hnv]
    have digI : (nI V >>> ((nI i * nI b) &&& 31)) &&& (nI (2 ^ b) - 1) = nI (cb_X n b A P i l x) := by
      rw [pk_mul, cb_shrN (by omega) (by omega)]
      show cb_r b (nI (V / 2 ^ (i * b))) = _
      rw [cb_rN hb (Nat.lt_of_le_of_lt (Nat.div_le_self _ _) (by omega)), dig]
    have hF : cb_le n b A P i y = cb_le n b A P i x := cb_le_cg (by omega) (fun v h1 h2 => (hxy v (by omega) h2).symm)
    have hXe : cb_X n b A P i l x = cb_le n b A P i y + l / 2 ^ cb_ps P i * 2 ^ (b - P i) := by
      rw [hF]
      rfl
    have go : wX_below_57 post (nI V) (nI n) (nI b) (nI (2 ^ b)) bad (i + 1) (nI (cnt + l / 2 ^ cb_ps P i * 2 ^ cb_ps P i)) (nI i + (-1)) a1 a2 a3 A (fun i => nI (P i)) a6 (upd y i (nI (cb_X n b A P i l x))) := by
      refine ih (by omega) (l % 2 ^ cb_ps P i) _ (upd x i (nI (cb_X n b A P i l x))) _ (Nat.mod_lt _ (Nat.two_pow_pos _)) (fun v h1 h2 => ?_) low (fun a7' => ?_)
      · by_cases e : v = i
        · rw [e, pk_us, pk_us]
        · rw [pk_un e, pk_un e]
          exact hxy v (by omega) h2
      · rw [Nat.add_assoc, hmod]
        exact hp a7'
    have go2 := cb_w139 (post := post) (N := nI n) (B := nI b) (M := nI (2 ^ b)) (x2 := nI V) (bad := bad) (a1 := a1) (a2 := a2) (a3 := a3) (a4 := A) (a5 := fun i => nI (P i)) (a6 := a6) (a7 := y) (show i < 4 by omega) hXe hX16 (show b - P i < 5 by omega) go
    rw [pk_m1]
    refine br_f (nI_pos (by omega)) (nm_r digI (cb_wLeast hb hn (by omega) hPi ⟨pk_in i 4 (by omega), ?_⟩))
    rw [nI_clamp (show i < 2 ^ 31 by omega)]
    refine nm_r (pk_sub hPi) (pk_le (cb_X n b A P i l x) (cb_le n b A P i y) (fun d => ?_) (fun d => ?_))
    · have e0 : l / 2 ^ cb_ps P i * 2 ^ (b - P i) = 0 := by omega
      have e1 := (Nat.mul_eq_zero.mp e0).resolve_right (Nat.ne_of_gt (Nat.two_pow_pos _))
      rw [e1, Nat.zero_mul, Nat.add_zero] at go2
      exact go2
    · have k0 : 0 < l / 2 ^ cb_ps P i := by
        apply Nat.pos_of_ne_zero
        intro z
        rw [z, Nat.zero_mul, Nat.add_zero] at hXe
        omega
      refine nm_r (e' := nI (l / 2 ^ cb_ps P i)) ?_ (cb_wCh (by omega) (nm_r ?_ go2))
      · rw [pk_sub (by omega), show cb_X n b A P i l x - cb_le n b A P i y = l / 2 ^ cb_ps P i * 2 ^ (b - P i) by omega]
        rw [show (1 : Int32) = nI 1 from rfl, pk_sub (Nat.mul_pos k0 (Nat.two_pow_pos _)), cb_shrN (by omega) (by omega), nI_add, cb_kg k0]
      · rw [cb_shlN (by omega) (by omega), nI_add]
theorem cb_wBelow {post : Int32 → St2 → Prop} {n b s l V : Nat} {x : Nat → Int32} (hb : b < 5) (hn : n ≤ 4) (hs : s < 2) (hI : cb_I b a1 a2 a3) (hZ : cb_Z a4 a5 a6) (hl : l < cb_tot n (cb_sv n b a1 a2 s))
    (hV : V = cb_nv n b (cb_sv n b a1 a2 s).1 (cb_sv n b a1 a2 s).2.1 n l x)
    (hp : ∀ bad' a4' a5' a6' a7', cb_Z a4' a5' a6' → post (nI l) (nI n, nI b, nI (2 ^ b), bad', a1, a2, a3, a4', a5', a6', a7')) :
    wpX_below post (nI n, nI b, nI (2 ^ b), bad, a1, a2, a3, a4, a5, a6, a7) (nI s) (nI V) := by
  have R := cb_sv_R (n := n) hb hn hs hI
  obtain ⟨t1, t2, t3⟩ := cb_tot_lt (b := b) hl
  have hnb : n * b ≤ 16 := Nat.mul_le_mul (show n ≤ 4 from hn) (show b ≤ 4 by omega)
  have hVlt : V < 2 ^ (n * b) := by
    rw [hV]
    exact cb_nv_lt hb R.2.2.1 n l x t3
  have hp16 : 2 ^ (n * b) ≤ 65536 := Nat.pow_le_pow_right (n := 2) (by decide) hnb
  unfold wpX_below
  refine cb_wSys hs (br_f (by decide) ?_)
  refine cb_wBd hb hn hs hI hZ (fun w' hw' => br_t t1 (pk_lt 0 V (fun hV0 => ?_) (fun hV0 => ?_)))
  · refine pk_lt V (2 ^ (n * b)) (fun _ => nm_r (Int32.sub_eq_add_neg _ _) ⟨n + 1, ?_⟩) (fun z => absurd z (by omega)) rfl (by rw [pk_mul, cb_shl1 (by omega)])
    refine cb_wB57 hb hn (by omega) R.2.2.1 n (Nat.le_refl n) l 0 x a7 t3 (fun v h1 h2 => absurd h1 (by omega)) (by rw [Nat.mod_eq_of_lt hVlt]; exact hV) (fun a7' => ?_)
    rw [Nat.zero_add]
    exact hp _ _ _ _ _ (cb_Z_v R hw')
  · have e : l = 0 := cb_nv_0 n l x t3 (by rw [← hV]; omega)
    rw [e] at hp
    exact hp _ _ _ _ _ (cb_Z_v R hw')
end
end
section
/-- the scratch of a state: bad, basis, power, work, x -/
abbrev cb_D : Type := Int32 × (Nat → Int32) × (Nat → Int32) × (Nat → Int32) × (Nat → Int32)
theorem cb_p2 : ∀ k, k < 10 → nI (2 ^ k) &&& (nI (2 ^ k) - 1) = 0 := by decide +kernel
theorem cb_p512 : ∀ k, k < 10 → 2 ^ k ≤ 512 := by decide
theorem cb_b16 : ∀ b, b < 5 → min 16 (2 ^ b) = 2 ^ b := by decide
section
variable {bad : Int32} {a1 a2 a3 a4 a5 a6 a7 : Nat → Int32}
theorem cb_w81 {post : Int32 → St2 → Prop} {n b s : Nat} (hb : b < 5) (hn : n ≤ 4) (hs : s < 2) (hI : cb_I b a1 a2 a3) (hZ : cb_Z a4 a5 a6)
    (hp : ∀ bad' a4' a5' a6' a7', cb_Z a4' a5' a6' → post 1 (nI n, nI b, nI (2 ^ b), bad', a1, a2, a3, a4', a5', a6', a7')) :
    ∃ f, wL_holds_81 post (nI s) (nI (cb_tot n (cb_sv n b a1 a2 s))) (nI (2 ^ b)) f 0 0 (nI n) (nI b) (nI (2 ^ b)) bad a1 a2 a3 a4 a5 a6 a7 := by
  have h16 := cb_p16le hb
  have hsum := cb_split2 (n := n) hb hn hs hI
  refine Exists.elim (pk_loop (fun f c (u : cb_D) => wL_holds_81 post (nI s) (nI (cb_tot n (cb_sv n b a1 a2 s))) (nI (2 ^ b)) f (nI (cb_sum (fun c => cb_tot n (cb_jn n b (cb_sv n b a1 a2 s) (cb_dl b a3 (nI c)))) (min c (2 ^ b)))) (nI c) (nI n) (nI b) (nI (2 ^ b)) u.1 a1 a2 a3 u.2.1 u.2.2.1 u.2.2.2.1 u.2.2.2.2)
    (fun _ u => cb_Z u.2.1 u.2.2.1 u.2.2.2.1) 16 0 (bad, a4, a5, a6, a7) (by omega) hZ ?_ ?_) (fun f hf => ?_)
  rotate_left 2
  · rw [Nat.zero_min] at hf
    exact ⟨f, hf⟩
  · intro f u h
    refine pk_le 16 16 (fun _ => ?_) (fun z => absurd z (by omega))
    rw [cb_b16 b hb, hsum]
    exact br_t rfl (hp _ _ _ _ _ h)
  · intro f c u hc h hw
    refine pk_le 16 c (fun z => absurd z (by omega)) (fun _ => pk_le (2 ^ b) c (fun d => nm_r (nI_1 c) ?_) (fun d => ?_))
    · have t := hw u h
      rw [show min (c + 1) (2 ^ b) = min c (2 ^ b) by omega] at t
      exact t
    · refine cb_wCnt hb hn hs hI h (fun bad' a4' a5' a6' a7' hZ' => nm_r (nI_add _ _) (nm_r (nI_1 c) ?_))
      have t := hw (bad', a4', a5', a6', a7') hZ'
      dsimp only at t
      rw [show min (c + 1) (2 ^ b) = c + 1 by omega] at t
      rw [show min c (2 ^ b) = c by omega]
      exact t
theorem cb_wHolds {post : Int32 → St2 → Prop} {n b s : Nat} (hb : b < 5) (hn : n ≤ 4) (hnb : n * b ≤ 9) (hs : s < 2) (hI : cb_I b a1 a2 a3) (hZ : cb_Z a4 a5 a6)
    (hp : ∀ bad' a4' a5' a6' a7', cb_Z a4' a5' a6' → post 1 (nI n, nI b, nI (2 ^ b), bad', a1, a2, a3, a4', a5', a6', a7')) :
    wpL_holds post (nI n, nI b, nI (2 ^ b), bad, a1, a2, a3, a4, a5, a6, a7) (nI s) := by
  have R := cb_sv_R (n := n) hb hn hs hI
  have hps := cb_ps_le R.2.2.1 n
  have tt : cb_tot n (cb_sv n b a1 a2 s) ≤ 512 ∧ nI (cb_tot n (cb_sv n b a1 a2 s)) &&& (nI (cb_tot n (cb_sv n b a1 a2 s)) - 1) = 0 := by
    unfold cb_tot
    by_cases e : (cb_sv n b a1 a2 s).2.2 = 0
    · rw [if_pos e]
      exact ⟨cb_p512 _ (by omega), cb_p2 _ (by omega)⟩
    · rw [if_neg e]
      exact ⟨by omega, by decide⟩
  unfold wpL_holds
  refine cb_wSol hb hn hs hI hZ (fun bad1 b4 b5 b6 b7 hZ1 => br_f (nI_pos (by omega)) (pk_le (cb_tot n (cb_sv n b a1 a2 s)) 512 (fun _ => br_t tt.2 ?_) (fun z => absurd z (by omega))))
  refine pk_loop (fun f i (u : cb_D) => wL_holds_31 post (nI s) (nI (cb_tot n (cb_sv n b a1 a2 s))) f (nI i) (nI n) (nI b) (nI (2 ^ b)) u.1 a1 a2 a3 u.2.1 u.2.2.1 u.2.2.2.1 u.2.2.2.2)
    (fun _ u => cb_Z u.2.1 u.2.2.1 u.2.2.2.1) (cb_tot n (cb_sv n b a1 a2 s)) 0 (bad1, b4, b5, b6, b7) (by omega) hZ1 (fun f u h => ?_) (fun f i u hi h hw => ?_)
  · exact pk_le (cb_tot n (cb_sv n b a1 a2 s)) (cb_tot n (cb_sv n b a1 a2 s)) (fun _ => cb_w81 hb hn hs hI h hp) (fun z => absurd z (by omega))
  · refine pk_le (cb_tot n (cb_sv n b a1 a2 s)) i (fun z => absurd z (by omega)) (fun _ => ?_)
    refine cb_wNth hb hn hs hI h hi (fun bad2 c4 c5 c6 c7 hZ2 => ?_)
    have hV := cb_nv_lt (n := n) (A := (cb_sv n b a1 a2 s).1) hb R.2.2.1 n i u.2.2.2.2 (cb_tot_lt (b := b) hi).2.2
    have h9 : 2 ^ (n * b) ≤ 512 := cb_p512 _ (by omega)
    refine pk_le 0 (cb_nv n b (cb_sv n b a1 a2 s).1 (cb_sv n b a1 a2 s).2.1 n i u.2.2.2.2) (fun _ => ?_) (fun z => absurd z (by omega))
    refine cb_wBelow hb hn hs hI hZ2 hi rfl (fun bad3 d4 d5 d6 d7 hZ3 => br_t rfl (nm_r (nI_1 i) (hw (bad3, d4, d5, d6, d7) hZ3)))
end
end
section
theorem cb_upE {b N k : Nat} {f : Nat → Int32} {v : Int32} (h : ∀ i, i < N → cb_E b (f i)) (hv : cb_E b v) : ∀ i, i < N → cb_E b (upd f k v i) := by
  intro i hi
  by_cases e : i = k
  · rw [e, pk_us]
    exact hv
  · rw [pk_un e]
    exact h i hi
theorem cb_upS {k z : Nat} {f : Nat → Int32} {v : Int32} (h : ∀ s, s < 2 → ∃ z, z ≤ 10 ∧ f s = nI z) (hz : z ≤ 10) (hv : v = nI z) : ∀ s, s < 2 → ∃ z, z ≤ 10 ∧ upd f k v s = nI z := by
  intro i hi
  by_cases e : i = k
  · rw [e, pk_us]
    exact ⟨z, hz, hv⟩
  · rw [pk_un e]
    exact h i hi
section
variable {bad : Int32} {a1 a2 a3 a4 a5 a6 a7 : Nat → Int32}
theorem cb_wDraft {post : Int32 → St2 → Prop} {n b v : Nat} {d : Int32} (hb : b < 5) (hn : n ≤ 4) (hv : v < n) (hI : cb_I b a1 a2 a3)
    (hp : ∀ r a1' a2' a3', cb_I b a1' a2' a3' → post r (nI n, nI b, nI (2 ^ b), bad, a1', a2', a3', a4, a5, a6, a7)) :
    wpX_draft post (nI n, nI b, nI (2 ^ b), bad, a1, a2, a3, a4, a5, a6, a7) (nI v) d :=
  br_f (nI_pos (by omega)) (pk_lt v n (fun _ => cb_wRed ⟨pk_in v 5 (by omega), nm_e ⟨pk_in v 5 (by omega), hp _ _ _ _ ⟨hI.1, hI.2.1, cb_upE hI.2.2 (cb_r_E hb _)⟩⟩⟩) (fun z => absurd z (by omega)))
theorem cb_wAdd {post : Int32 → St2 → Prop} {n b s : Nat} {d : Int32} (hb : b < 5) (hn : n ≤ 4) (hs : s < 2) (hI : cb_I b a1 a2 a3)
    (hp : ∀ r a1' a2' a3', cb_I b a1' a2' a3' → post r (nI n, nI b, nI (2 ^ b), bad, a1', a2', a3', a4, a5, a6, a7)) :
    wpX_add post (nI n, nI b, nI (2 ^ b), bad, a1, a2, a3, a4, a5, a6, a7) (nI s) d := by
  obtain ⟨z, hz, e⟩ := hI.2.1 s hs
  unfold wpX_add
  refine cb_wSys hs (br_f (by decide) ⟨pk_in s 2 hs, ?_⟩)
  rw [nI_clamp (show s < 2 ^ 31 by omega), e]
  refine pk_eq z 10 (fun _ => hp _ _ _ _ hI) (fun h10 => ⟨pk_in s 2 hs, nm_r (cb_ix s z) ?_⟩)
  refine pk_loop (fun f v w => wX_add_40 post (nI s) d (nI ((s * 10 + z) * 5)) (nI n) (nI b) (nI (2 ^ b)) bad f (nI v) w a2 a3 a4 a5 a6 a7) (fun _ w => ∀ k, k < 100 → cb_E b (w k)) n 0 a1 (by omega) hI.1
    (fun f w h => pk_le n n (fun _ => cb_wRed ⟨pk_in ((s * 10 + z) * 5 + 4) 100 (by omega) (nI_add _ 4), nm_e ⟨pk_in s 2 hs, pk_in s 2 hs, nm_e ⟨pk_in s 2 hs, hp _ _ _ _ ⟨cb_upE h (cb_r_E hb _), cb_upS (z := z + 1) hI.2.1 (by omega) ?_, hI.2.2⟩⟩⟩⟩) (fun q => absurd q (by omega)))
    (fun f v w hv h hw => pk_le n v (fun q => absurd q (by omega)) (fun _ => ⟨pk_in v 5 (by omega), pk_in ((s * 10 + z) * 5 + v) 100 (by omega) (nI_add _ _), nm_e (nm_r (nI_1 v) (hw _ (cb_upE h ?_)))⟩))
  · rw [nI_clamp (by omega), e, nI_1]
  · rw [nI_clamp (by omega)]
    exact hI.2.2 v (by omega)
theorem cb_wCopy {post : Int32 → St2 → Prop} {n b s : Nat} (hb : b < 5) (hn : n ≤ 4) (hs : s < 2) (hI : cb_I b a1 a2 a3)
    (hp : ∀ r a1' a2' a3', cb_I b a1' a2' a3' → post r (nI n, nI b, nI (2 ^ b), bad, a1', a2', a3', a4, a5, a6, a7)) :
    wpX_copy post (nI n, nI b, nI (2 ^ b), bad, a1, a2, a3, a4, a5, a6, a7) (nI s) := by
  obtain ⟨z, hz, e⟩ := hI.2.1 s hs
  have e1 : (1 : Int32) - nI s = nI (1 - s) := pk_sub (a := 1) (by omega)
  unfold wpX_copy
  rw [e1]
  refine cb_wSys hs (br_f (by decide) (nm_r (e' := nI (s * 10 * 5)) ?_ (nm_r (e' := nI ((1 - s) * 10 * 5)) ?_ ?_)))
  · rw [show (10 : Int32) = nI 10 from rfl, show (5 : Int32) = nI 5 from rfl, pk_mul, pk_mul]
  · rw [show (10 : Int32) = nI 10 from rfl, show (5 : Int32) = nI 5 from rfl, pk_mul, pk_mul]
  refine pk_loop (fun f k w => wX_copy_28 post (nI s) (nI (s * 10 * 5)) (nI ((1 - s) * 10 * 5)) (nI n) (nI b) (nI (2 ^ b)) bad f (nI k) w a2 a3 a4 a5 a6 a7) (fun _ w => ∀ k, k < 100 → cb_E b (w k)) 50 0 a1 (by omega) hI.1
    (fun f w h => pk_le 50 50 (fun _ => ⟨pk_in s 2 hs, pk_in (1 - s) 2 (by omega) e1, nm_e ⟨pk_in s 2 hs, hp _ _ _ _ ⟨h, cb_upS (z := z) hI.2.1 hz ?_, hI.2.2⟩⟩⟩) (fun q => absurd q (by omega)))
    (fun f k w hk h hw => pk_le 50 k (fun q => absurd q (by omega)) (fun _ => ⟨pk_in (s * 10 * 5 + k) 100 (by omega) (nI_add _ _), pk_in ((1 - s) * 10 * 5 + k) 100 (by omega) (nI_add _ _), nm_e (nm_r (nI_1 k) (hw _ (cb_upE h ?_)))⟩))
  · rw [nI_clamp (by omega), e]
  · rw [nI_add, nI_clamp (by omega)]
    exact h _ (by omega)
theorem cb_wDrop {post : Int32 → St2 → Prop} {n b s i : Nat} (hb : b < 5) (hn : n ≤ 4) (hs : s < 2) (hi : i < 16) (hI : cb_I b a1 a2 a3)
    (hp : ∀ r a1' a2' a3', cb_I b a1' a2' a3' → post r (nI n, nI b, nI (2 ^ b), bad, a1', a2', a3', a4, a5, a6, a7)) :
    wpX_drop post (nI n, nI b, nI (2 ^ b), bad, a1, a2, a3, a4, a5, a6, a7) (nI s) (nI i) := by
  obtain ⟨z, hz, e⟩ := hI.2.1 s hs
  unfold wpX_drop
  refine cb_wSys hs (br_f (by decide) (br_f (nI_pos (by omega)) ⟨pk_in s 2 hs, ?_⟩))
  rw [nI_clamp (show s < 2 ^ 31 by omega), e]
  refine pk_lt i z (fun hiz => ⟨pk_in s 2 hs, nm_r (e' := nI ((s * 10 + z - 1) * 5)) ?_ (nm_r (cb_ix s i) ?_)⟩) (fun _ => hp _ _ _ _ hI)
  · rw [show (10 : Int32) = nI 10 from rfl, show (5 : Int32) = nI 5 from rfl, show (1 : Int32) = nI 1 from rfl, pk_mul, nI_add, pk_sub (by omega), pk_mul]
  refine pk_loop (fun f k w => wX_drop_52 post (nI s) (nI ((s * 10 + z - 1) * 5)) (nI n) (nI b) (nI (2 ^ b)) bad f (nI k) w a2 a3 a4 a5 a6 a7) (fun _ w => ∀ k, k < 100 → cb_E b (w k)) ((s * 10 + z - 1) * 5) ((s * 10 + i) * 5) a1 (by omega) hI.1
    (fun f w h => pk_le ((s * 10 + z - 1) * 5) ((s * 10 + z - 1) * 5) (fun _ => ⟨pk_in s 2 hs, pk_in s 2 hs, nm_e ⟨pk_in s 2 hs, hp _ _ _ _ ⟨h, cb_upS (z := z - 1) hI.2.1 (by omega) ?_, hI.2.2⟩⟩⟩) (fun q => absurd q (by omega)))
    (fun f k w hk h hw => pk_le ((s * 10 + z - 1) * 5) k (fun q => absurd q (by omega)) (fun _ => ⟨pk_in (k + 5) 100 (by omega) (nI_add _ 5), pk_in k 100 (by omega), nm_e (nm_r (nI_1 k) (hw _ (cb_upE h ?_)))⟩))
  · rw [nI_clamp (by omega), e]
    exact pk_sub (b := 1) (by omega)
  · rw [show (5 : Int32) = nI 5 from rfl, nI_add, nI_clamp (by omega)]
    exact h _ (by omega)
theorem cb_wTurn {post : St2 → Prop} {n b : Nat} {c d : Int32} (hb : b < 5) (hn1 : 1 ≤ n) (hn : n ≤ 4) (hI : cb_I b a1 a2 a3)
    (hp : ∀ a1' a2' a3', cb_I b a1' a2' a3' → post (nI n, nI b, nI (2 ^ b), bad, a1', a2', a3', a4, a5, a6, a7)) :
    wpL_turn post (nI n, nI b, nI (2 ^ b), bad, a1, a2, a3, a4, a5, a6, a7) c d := by
  obtain ⟨op, hop, eop⟩ := pk_andE c (m := 7) 3 (by decide)
  obtain ⟨s, hs, es⟩ := pk_andE (c >>> ((3 : Int32) &&& 31)) (m := 1) 1 (by decide)
  obtain ⟨q, hq, eq⟩ := pk_andE (c >>> ((4 : Int32) &&& 31)) (m := 15) 4 (by decide)
  obtain ⟨i, hi, ei⟩ := pk_andE d (m := 15) 4 (by decide)
  have hvn : q % n < n := Nat.mod_lt _ (by omega)
  unfold wpL_turn
  refine nm_r eop (nm_r es ?_)
  rw [eq, ei]
  refine pk_le 1 n (fun _ => ⟨nI_ne0 (by omega) (by omega), ?_⟩) (fun z => absurd z (by omega))
  rw [pk_andN (n := q) (by omega) (m := 2147483647) 31 (by decide), Nat.mod_eq_of_lt (by omega), pk_rem (by omega) (by omega) (by omega)]
  refine pk_le 4 op (fun _ => pk_le 6 op (fun _ => pk_eq op 6 (fun _ => ?_) (fun _ => br_c (fun _ => ?_) (fun _ => ?_))) (fun _ => ?_)) (fun _ => ?_)
  · exact cb_wDrop hb hn hs hi hI (fun _ => hp)
  · exact cb_wCopy hb hn hs hI (fun _ => hp)
  · exact cb_wAdd hb hn hs hI (fun _ => hp)
  · exact cb_wAdd hb hn hs hI (fun _ => hp)
  · exact cb_wDraft hb hn hvn hI (fun _ => hp)
end
end
section
theorem cb_wInit {post : St2 → Prop} {n q : Nat} (hn1 : 1 ≤ n) (hn : n ≤ 4) (hq1 : 1 ≤ q) (hq : q ≤ 4)
    (hp : ∀ b, b < 5 → n * b ≤ 9 → post (nI n, nI b, nI (2 ^ b), 0, (fun _ => 0), (fun _ => 0), (fun _ => 0), (fun _ => 0), (fun _ => 0), (fun _ => 0), (fun _ => 0))) : wpX_init post 7 140 (0, 0, 0, 0) (nI n) (nI q) := by
  have key : ∀ m, m ≤ 4 → n * m ≤ 9 → wX_init_101 post 7 140 (nI q) (nI m) 7 140 (nI n) 0 0 0 (fun _ => 0) (fun _ => 0) (fun _ => 0) (fun _ => 0) (fun _ => 0) (fun _ => 0) (fun _ => 0) := by
    intro m hm hnm
    refine pk_le 1 q (fun _ => pk_le q m (fun hqm => nm_r (cb_shl1 (by omega)) (hp q (by omega) ?_)) (fun _ => nm_r (cb_shl1 (by omega)) (hp m (by omega) hnm))) (fun z => absurd z (by omega))
    exact Nat.le_trans (Nat.mul_le_mul_left n hqm) hnm
  refine ⟨by omega, by omega, by omega, by omega, by omega, by omega, by omega, by omega, by omega, by omega, by omega, by omega, by omega, by omega, ?_⟩
  refine pk_le 1 n (fun _ => pk_le n 4 (fun _ => pk_le 3 n (fun h3 => ?_) (fun h3 => ?_)) (fun z => absurd z (by omega))) (fun z => absurd z (by omega))
  · rw [show (6 : Int32) = nI 6 from rfl, pk_sub (by omega)]
    refine key (6 - n) (by omega) ?_
    rcases (show n = 3 ∨ n = 4 by omega) with e | e
    · rw [e]
      decide
    · rw [e]
      decide
  · refine key 4 (by omega) (by omega)
theorem cb_wCell {post : Int32 → Prop} {L k : Nat} {xs : Nat → Int32} (hL : L ≤ 260) (hk : k < 2 ^ 31) (h : ∀ r, post r) : wpL_cell post L xs () (nI k) :=
  pk_le L k (fun _ => h _) (fun z => ⟨pk_in k L z, h _⟩)
/-- the state of the law's loop: lines, sizes, draft, scratch -/
abbrev cb_U : Type := (Nat → Int32) × (Nat → Int32) × (Nat → Int32) × cb_D
theorem cb_wLoop {n b L kc ks : Nat} {xs : Nat → Int32} (hL : L ≤ 260) (hb : b < 5) (hn1 : 1 ≤ n) (hn : n ≤ 4) (hnb : n * b ≤ 9) {bad : Int32} {a1 a2 a3 a4 a5 a6 a7 : Nat → Int32} (hI : cb_I b a1 a2 a3) (hZ : cb_Z a4 a5 a6) :
    ∃ f, wL_law_33 (fun r => r = 1) L xs kc ks f 2 (nI n) (nI b) (nI (2 ^ b)) bad a1 a2 a3 a4 a5 a6 a7 := by
  refine pk_loop (fun f i (u : cb_U) => wL_law_33 (fun r => r = 1) L xs kc ks f (nI (2 + 2 * i)) (nI n) (nI b) (nI (2 ^ b)) u.2.2.2.1 u.1 u.2.1 u.2.2.1 u.2.2.2.2.1 u.2.2.2.2.2.1 u.2.2.2.2.2.2.1 u.2.2.2.2.2.2.2)
    (fun _ u => cb_I b u.1 u.2.1 u.2.2.1 ∧ cb_Z u.2.2.2.2.1 u.2.2.2.2.2.1 u.2.2.2.2.2.2.1) L 0 (a1, a2, a3, bad, a4, a5, a6, a7) (by omega) ⟨hI, hZ⟩
    (fun f u h => pk_le L (2 + 2 * L) (fun _ => cb_wHolds (s := 0) hb hn hnb (by omega) h.1 h.2 (fun bad' a4' a5' a6' a7' hZ' => br_f (by decide) (cb_wHolds (s := 1) hb hn hnb (by omega) h.1 hZ' (fun _ _ _ _ _ _ => br_f (by decide) rfl)))) (fun z => absurd z (by omega)))
    (fun f i u hi h hw => pk_le L (2 + 2 * i) (fun _ => cb_wHolds (s := 0) hb hn hnb (by omega) h.1 h.2 (fun bad' a4' a5' a6' a7' hZ' => br_f (by decide) (cb_wHolds (s := 1) hb hn hnb (by omega) h.1 hZ' (fun _ _ _ _ _ _ => br_f (by decide) rfl)))) (fun _ => ?_))
  have e2 : nI (2 + 2 * i) + 2 = nI (2 + 2 * (i + 1)) := nI_add (2 + 2 * i) 2
  refine cb_wCell hL (by omega) (fun c => ?_)
  rw [nI_1]
  refine cb_wCell hL (by omega) (fun d => ?_)
  refine cb_wTurn hb hn1 hn h.1 (fun a1' a2' a3' hI' => ?_)
  obtain ⟨s, hs, es⟩ := pk_andE (c >>> ((3 : Int32) &&& 31)) (m := 1) 1 (by decide)
  refine br_c (fun _ => ?_) (fun _ => nm_r e2 (hw (a1', a2', a3', u.2.2.2) ⟨hI', h.2⟩))
  rw [es]
  exact cb_wHolds hb hn hnb hs hI' h.2 (fun bad' a4' a5' a6' a7' hZ' => br_f (by decide) (nm_r e2 (hw (a1', a2', a3', bad', a4', a5', a6', a7') ⟨hI', hZ'⟩)))
theorem i_vc (xs : Nat → Int32) (L : Nat) (hL : L ≤ 260) : wpL_law (fun r => r = 1) L xs := by
  refine cb_wCell (k := 0) hL (by omega) (fun c => ?_)
  obtain ⟨q, hq, eq⟩ := pk_andE c (m := 3) 2 (by decide)
  rw [eq]
  refine nm_r (nI_add 1 q) (cb_wCell (k := 1) hL (by omega) (fun d => ?_))
  obtain ⟨p, hp, ep⟩ := pk_andE d (m := 3) 2 (by decide)
  rw [ep]
  refine nm_r (nI_add 1 p) ⟨7, 140, by omega, by omega, cb_wInit (by omega) (by omega) (by omega) (by omega) (fun b hb hnb => ?_)⟩
  exact cb_wLoop hL hb (by omega) (by omega) hnb ⟨fun _ _ => cb_Ez b, fun s _ => ⟨0, by omega, rfl⟩, fun _ _ => cb_Ez b⟩ ⟨fun _ _ => rfl, fun _ _ => rfl, fun _ _ => rfl⟩
end
