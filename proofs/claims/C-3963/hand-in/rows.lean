section
/-! pure rows to paste: stores, nI and lN arithmetic, masks, shifts, narrowing, branches by naturals (pk_le, pk_lt, pk_eq), loops (lp1 .. lp16: the measure of the state; rp1 ..: recursion), negatives. Take what you need -/
theorem pk_us {f : Nat → Int32} {k : Nat} {x : Int32} : upd f k x k = x := if_pos rfl
theorem pk_un {f : Nat → Int32} {k j : Nat} {x : Int32} (h : j ≠ k) : upd f k x j = f j := if_neg h
theorem pk_uLs {f : Nat → Int64} {k : Nat} {x : Int64} : vp_updL f k x k = x := if_pos rfl
theorem pk_uLn {f : Nat → Int64} {k j : Nat} {x : Int64} (h : j ≠ k) : vp_updL f k x j = f j := if_neg h
theorem pk_sub {a b : Nat} (h : b ≤ a) : nI a - nI b = nI (a - b) := by
  obtain ⟨c, rfl⟩ : ∃ c, a = c + b := ⟨a - b, by omega⟩
  rw [← nI_add, Int32.add_sub_cancel, Nat.add_sub_cancel]
theorem pk_m1 (n : Nat) : nI (n + 1) + (-1) = nI n := by
  rw [← nI_1, Int32.add_assoc, show (1 : Int32) + (-1) = 0 from rfl, Int32.add_zero]
theorem pk_mul (a b : Nat) : nI a * nI b = nI (a * b) := (Int32.ofNat_mul a b).symm
theorem pk_div {a d : Nat} (ha : a < 2 ^ 31) (h0 : 0 < d) (hd : d < 2 ^ 31) : nI a / nI d = nI (a / d) := by
  apply Int32.toInt_inj.mp
  rw [lg_idiv_nonneg (by rw [nI_toInt ha]; omega) (by rw [nI_toInt hd]; omega), nI_toInt ha, nI_toInt hd, nI_toInt (Nat.lt_of_le_of_lt (Nat.div_le_self a d) ha)]
  first | rfl | exact (Int.natCast_ediv _ _).symm
theorem pk_rem {a d : Nat} (ha : a < 2 ^ 31) (h0 : 0 < d) (hd : d < 2 ^ 31) : nI a - nI a / nI d * nI d = nI (a % d) := by
  rw [pk_div ha h0 hd, pk_mul, pk_sub (Nat.div_mul_le_self a d)]
  exact congrArg nI (by have := Nat.div_add_mod' a d; omega)
theorem pk_sub_toInt {a b : Nat} (ha : a < 2 ^ 30) (hb : b < 2 ^ 30) : (nI a - nI b).toInt = (a : Int) - b := by
  rw [Int32.toInt_sub, nI_toInt (by omega), nI_toInt (by omega)]
  exact Int.bmod_eq_of_le (by omega) (by omega)
theorem pk_sneg {a b : Nat} (hb : b < 2 ^ 30) (h : a < b) : nI a - nI b < 0 := by
  rw [Int32.lt_iff_toInt_lt, pk_sub_toInt (by omega) hb, show (0 : Int32).toInt = 0 from by decide]
  omega
theorem pk_ix (x : Int32) {n : Nat} (hn : n < 2 ^ 31) : x < 0 ∨ nI n ≤ x ∨ ∃ j : Nat, j < n ∧ x = nI j := by
  by_cases h : x < 0
  · exact Or.inl h
  · obtain ⟨j, hj, rfl⟩ := nI_of h
    by_cases h2 : j < n
    · exact Or.inr (Or.inr ⟨j, h2, rfl⟩)
    · exact Or.inr (Or.inl (nI_le (by omega) hj))
theorem pk_le {x y : Int32} {A B : Prop} (a b : Nat) (f : a ≤ b → A) (g : b < a → B) (hx : x = nI a := by rfl) (hy : y = nI b := by rfl) (ha : a < 2 ^ 31 := by omega) (hb : b < 2 ^ 31 := by omega) : (x ≤ y → A) ∧ (¬ x ≤ y → B) := by
  subst hx hy
  rw [nI_leI ha hb]
  exact ⟨f, fun z => g (by omega)⟩
theorem pk_lt {x y : Int32} {A B : Prop} (a b : Nat) (f : a < b → A) (g : b ≤ a → B) (hx : x = nI a := by rfl) (hy : y = nI b := by rfl) (ha : a < 2 ^ 31 := by omega) (hb : b < 2 ^ 31 := by omega) : (x < y → A) ∧ (¬ x < y → B) := by
  subst hx hy
  rw [nI_ltI ha hb]
  exact ⟨f, fun z => g (by omega)⟩
theorem pk_eq {x y : Int32} {A B : Prop} (a b : Nat) (f : a = b → A) (g : a ≠ b → B) (hx : x = nI a := by rfl) (hy : y = nI b := by rfl) (ha : a < 2 ^ 31 := by omega) (hb : b < 2 ^ 31 := by omega) : (x = y → A) ∧ (¬ x = y → B) := by
  subst hx hy
  rw [nI_eq ha hb]
  exact ⟨f, g⟩
theorem pk_in {x : Int32} (n N : Nat) (h : n < N) (hx : x = nI n := by rfl) (hN : N < 2 ^ 31 := by omega) : vp_in x N := by
  subst hx
  exact vp_in_nI h hN
theorem pk_cl {x : Int32} (n : Nat) (hx : x = nI n := by rfl) (h : n < 2 ^ 31 := by omega) : x.toNatClampNeg = n := by
  subst hx
  exact nI_clamp h
theorem pk_tn {n : Nat} (h : n < 2 ^ 32) : (nI n).toBitVec.toNat = n := Nat.mod_eq_of_lt h
theorem pk_and (x : Int32) {m : Int32} (k : Nat) (hm : m.toBitVec.toNat = 2 ^ k - 1) : x &&& m = nI (x.toBitVec.toNat % 2 ^ k) := by
  apply Int32.toBitVec_inj.mp
  apply BitVec.eq_of_toNat_eq
  rw [Int32.toBitVec_and, BitVec.toNat_and, hm, Nat.and_two_pow_sub_one_eq_mod]
  show _ = (BitVec.ofNat 32 _).toNat
  rw [BitVec.toNat_ofNat]
  exact (Nat.mod_eq_of_lt (Nat.lt_of_le_of_lt (Nat.mod_le _ _) x.toBitVec.isLt)).symm
theorem pk_andN {n : Nat} (h : n < 2 ^ 32) {m : Int32} (k : Nat) (hm : m.toBitVec.toNat = 2 ^ k - 1) : nI n &&& m = nI (n % 2 ^ k) := by
  rw [pk_and _ k hm, pk_tn h]
theorem pk_andE (x : Int32) {m : Int32} (k : Nat) (hm : m.toBitVec.toNat = 2 ^ k - 1) : ∃ j : Nat, j < 2 ^ k ∧ x &&& m = nI j := ⟨_, Nat.mod_lt _ (Nat.two_pow_pos k), pk_and x k hm⟩
theorem pk_andIn (x : Int32) {m : Int32} (k : Nat) (hm : m.toBitVec.toNat = 2 ^ k - 1) (hk : k ≤ 30) : vp_in (x &&& m) (2 ^ k) := by
  obtain ⟨j, hj, e⟩ := pk_andE x k hm
  rw [e]
  exact vp_in_nI hj (Nat.lt_of_le_of_lt (Nat.pow_le_pow_right (by decide) hk) (by decide))
end
section
/-! counts, closures, sweeps, the grid -/
noncomputable def ft_cnt (P : Nat → Prop) : Nat → Nat
  | 0 => 0
  | n + 1 => ft_cnt P n + @ite Nat (P n) (Classical.propDecidable _) 1 0
theorem ft_cnt_t {P : Nat → Prop} {n : Nat} (h : P n) : ft_cnt P (n + 1) = ft_cnt P n + 1 := by
  show ft_cnt P n + @ite Nat (P n) (Classical.propDecidable _) 1 0 = _
  rw [if_pos h]
theorem ft_cnt_f {P : Nat → Prop} {n : Nat} (h : ¬ P n) : ft_cnt P (n + 1) = ft_cnt P n := by
  show ft_cnt P n + @ite Nat (P n) (Classical.propDecidable _) 1 0 = _
  rw [if_neg h]
  rfl
theorem ft_cnt_congr {P Q : Nat → Prop} : ∀ n, (∀ x, x < n → (P x ↔ Q x)) → ft_cnt P n = ft_cnt Q n := by
  intro n
  induction n with
  | zero => intro _; rfl
  | succ n ih =>
    intro h
    have e := ih (fun x hx => h x (by omega))
    by_cases p : P n
    · rw [ft_cnt_t p, ft_cnt_t ((h n (by omega)).mp p), e]
    · rw [ft_cnt_f p, ft_cnt_f (fun q => p ((h n (by omega)).mpr q)), e]
theorem ft_cnt_up (P : Nat → Prop) (n : Nat) : ft_cnt P n ≤ ft_cnt P (n + 1) := by
  by_cases p : P n
  · rw [ft_cnt_t p]; omega
  · rw [ft_cnt_f p]; omega
theorem ft_cnt_le (P : Nat → Prop) : ∀ n, ft_cnt P n ≤ n := by
  intro n
  induction n with
  | zero => exact Nat.le_refl 0
  | succ n ih =>
    by_cases p : P n
    · rw [ft_cnt_t p]; omega
    · rw [ft_cnt_f p]; omega
theorem ft_cnt_mono {P Q : Nat → Prop} : ∀ n, (∀ x, x < n → P x → Q x) → ft_cnt P n ≤ ft_cnt Q n := by
  intro n
  induction n with
  | zero => intro _; exact Nat.le_refl 0
  | succ n ih =>
    intro h
    have e := ih (fun x hx => h x (by omega))
    by_cases p : P n
    · rw [ft_cnt_t p, ft_cnt_t (h n (by omega) p)]; omega
    · rw [ft_cnt_f p]; have := ft_cnt_up Q n; omega
theorem ft_cnt_lt {P Q : Nat → Prop} : ∀ n, (∀ x, x < n → P x → Q x) → ∀ z, z < n → Q z → ¬ P z → ft_cnt P n < ft_cnt Q n := by
  intro n
  induction n with
  | zero => intro _ z hz; omega
  | succ n ih =>
    intro h z hz qz pz
    by_cases e : z = n
    · subst e
      rw [ft_cnt_f pz, ft_cnt_t qz]
      have := ft_cnt_mono z (fun x hx => h x (by omega))
      omega
    · have i := ih (fun x hx => h x (by omega)) z (by omega) qz pz
      by_cases p : P n
      · rw [ft_cnt_t p, ft_cnt_t (h n (by omega) p)]; omega
      · rw [ft_cnt_f p]; have := ft_cnt_up Q n; omega
theorem ft_cnt_lt_n {P : Nat → Prop} {n z : Nat} (hz : z < n) (h : ¬ P z) : ft_cnt P n < n :=
  Nat.lt_of_lt_of_le (ft_cnt_lt (Q := fun _ => True) n (fun _ _ _ => trivial) z hz trivial h) (ft_cnt_le _ n)
theorem ft_cnt_add {P Q : Nat → Prop} : ∀ n z, z < n → ¬ P z → (∀ y, y < n → (Q y ↔ P y ∨ y = z)) → ft_cnt Q n = ft_cnt P n + 1 := by
  intro n
  induction n with
  | zero => intro z hz; omega
  | succ n ih =>
    intro z hz pz h
    by_cases e : z = n
    · subst e
      rw [ft_cnt_f pz, ft_cnt_t ((h z hz).mpr (Or.inr rfl))]
      have := ft_cnt_congr (P := Q) (Q := P) z (fun x hx => ⟨fun q => ((h x (by omega)).mp q).elim id (fun e => absurd e (by omega)), fun p => (h x (by omega)).mpr (Or.inl p)⟩)
      omega
    · have i := ih z (by omega) pz (fun y hy => h y (by omega))
      by_cases p : P n
      · rw [ft_cnt_t p, ft_cnt_t ((h n (by omega)).mpr (Or.inl p))]; omega
      · rw [ft_cnt_f p, ft_cnt_f (fun q => ((h n (by omega)).mp q).elim p (fun e' => e e'.symm))]; omega
theorem ft_cnt_none {P : Nat → Prop} : ∀ n, (∀ x, x < n → ¬ P x) → ft_cnt P n = 0 := by
  intro n
  induction n with
  | zero => intro _; rfl
  | succ n ih =>
    intro h
    rw [ft_cnt_f (h n (by omega))]
    exact ih (fun x hx => h x (by omega))

/-! the least set that holds S and is closed under E (x is got from y) -/
def ft_cl (E : Nat → Nat → Prop) (S : Nat → Prop) (c : Nat) : Prop :=
  ∀ T : Nat → Prop, (∀ x, S x → T x) → (∀ x y, T y → E x y → T x) → T c
theorem ft_cl_s {E : Nat → Nat → Prop} {S : Nat → Prop} {c : Nat} (h : S c) : ft_cl E S c := fun _ hs _ => hs c h
theorem ft_cl_e {E : Nat → Nat → Prop} {S : Nat → Prop} {x y : Nat} (h : ft_cl E S y) (e : E x y) : ft_cl E S x :=
  fun T hs he => he x y (h T hs he) e
def ft_ck (E : Nat → Nat → Prop) (S : Nat → Prop) : Nat → Nat → Prop
  | 0 => S
  | k + 1 => fun x => ft_ck E S k x ∨ ∃ y, E x y ∧ ft_ck E S k y
theorem ft_ck_S {E : Nat → Nat → Prop} {S : Nat → Prop} {x : Nat} (h : S x) : ∀ k, ft_ck E S k x := by
  intro k
  induction k with
  | zero => exact h
  | succ k ih => exact Or.inl ih
theorem ft_ck_lt {E : Nat → Nat → Prop} {S : Nat → Prop} {N : Nat} (hE : ∀ x y, E x y → x < N) (hS : ∀ x, S x → x < N) : ∀ k x, ft_ck E S k x → x < N := by
  intro k
  induction k with
  | zero => exact hS
  | succ k ih =>
    intro x h
    rcases h with h | ⟨y, e, _⟩
    · exact ih x h
    · exact hE x y e
theorem ft_cl_lt {E : Nat → Nat → Prop} {S : Nat → Prop} {N : Nat} (hE : ∀ x y, E x y → x < N) (hS : ∀ x, S x → x < N) {x : Nat} (h : ft_cl E S x) : x < N :=
  h (fun x => x < N) hS (fun x y _ e => hE x y e)
theorem ft_sat {E : Nat → Nat → Prop} {S : Nat → Prop} {N : Nat} (hE : ∀ x y, E x y → x < N) (hS : ∀ x, S x → x < N) :
    ∀ k, (∀ x, ft_cl E S x → ft_ck E S k x) ∨ k ≤ ft_cnt (ft_ck E S k) N := by
  intro k
  induction k with
  | zero => exact Or.inr (Nat.zero_le _)
  | succ k ih =>
    rcases ih with h | h
    · exact Or.inl (fun x hx => Or.inl (h x hx))
    · by_cases q : ∃ x, ft_ck E S (k + 1) x ∧ ¬ ft_ck E S k x
      · obtain ⟨x, h1, h2⟩ := q
        have := ft_cnt_lt (P := ft_ck E S k) (Q := ft_ck E S (k + 1)) N (fun _ _ p => Or.inl p) x (ft_ck_lt hE hS (k + 1) x h1) h1 h2
        exact Or.inr (by omega)
      · refine Or.inl (fun x hx => Or.inl ?_)
        exact hx (ft_ck E S k) (fun x s => ft_ck_S s k)
          (fun x y hy e => Classical.byContradiction fun n => q ⟨x, Or.inr ⟨y, e, hy⟩, n⟩)
theorem ft_sat_end {E : Nat → Nat → Prop} {S : Nat → Prop} {N : Nat} (hE : ∀ x y, E x y → x < N) (hS : ∀ x, S x → x < N) {x : Nat} (h : ft_cl E S x) : ft_ck E S N x := by
  rcases ft_sat hE hS N with q | q
  · exact q x h
  · refine Classical.byContradiction fun n => ?_
    have := ft_cnt_lt_n (P := ft_ck E S N) (ft_cl_lt hE hS h) n
    omega
/-! a sweep: k rounds are done, in this one the cells below c -/
def ft_inv (E : Nat → Nat → Prop) (S : Nat → Prop) (k c : Nat) (M : Nat → Prop) : Prop :=
  (∀ x, M x → ft_cl E S x) ∧ (∀ x, ft_ck E S k x → M x) ∧ (∀ x, x < c → ft_ck E S (k + 1) x → M x)
theorem ft_inv_0 {E : Nat → Nat → Prop} {S : Nat → Prop} {M : Nat → Prop} (h : ∀ x, M x ↔ S x) : ft_inv E S 0 0 M :=
  ⟨fun x m => ft_cl_s ((h x).mp m), fun x s => (h x).mpr s, fun x hx => absurd hx (Nat.not_lt_zero x)⟩
theorem ft_inv_s {E : Nat → Nat → Prop} {S : Nat → Prop} {k c : Nat} {M M' : Nat → Prop} (I : ft_inv E S k c M)
    (h : ∀ x, M' x ↔ M x ∨ (x = c ∧ ∃ y, E c y ∧ M y)) : ft_inv E S k (c + 1) M' := by
  refine ⟨fun x m => ?_, fun x s => (h x).mpr (Or.inl (I.2.1 x s)), fun x hx s => (h x).mpr ?_⟩
  · rcases (h x).mp m with m | ⟨rfl, y, e, m⟩
    · exact I.1 x m
    · exact ft_cl_e (I.1 y m) e
  · by_cases e : x = c
    · subst e
      rcases s with s | ⟨y, e, s⟩
      · exact Or.inl (I.2.1 x s)
      · exact Or.inr ⟨rfl, y, e, I.2.1 y s⟩
    · exact Or.inl (I.2.2 x (by omega) s)
theorem ft_inv_n {E : Nat → Nat → Prop} {S : Nat → Prop} {k N : Nat} {M : Nat → Prop} (hE : ∀ x y, E x y → x < N) (hS : ∀ x, S x → x < N) (I : ft_inv E S k N M) : ft_inv E S (k + 1) 0 M :=
  ⟨I.1, fun x s => I.2.2 x (ft_ck_lt hE hS _ x s) s, fun x hx => absurd hx (Nat.not_lt_zero x)⟩
theorem ft_inv_e {E : Nat → Nat → Prop} {S : Nat → Prop} {c N : Nat} {M : Nat → Prop} (hE : ∀ x y, E x y → x < N) (hS : ∀ x, S x → x < N) (I : ft_inv E S N c M) (x : Nat) : M x ↔ ft_cl E S x :=
  ⟨I.1 x, fun h => I.2.1 x (ft_sat_end hE hS h)⟩

/-! the grid -/
def ft_adj (x y : Nat) : Prop := x < 64 ∧ y < 64 ∧ ((y = x + 1 ∧ y % 8 ≠ 0) ∨ (x = y + 1 ∧ x % 8 ≠ 0) ∨ y = x + 8 ∨ x = y + 8)
theorem ft_adj_c {x y : Nat} (h : ft_adj x y) : ft_adj y x := by
  unfold ft_adj at *
  omega
def ft_bd (x : Nat) : Prop := x < 64 ∧ (x < 8 ∨ 55 < x ∨ x % 8 = 0 ∨ x % 8 = 7)
/-- the component's neighbour y of c in direction d -/
def ft_dx (c d y : Nat) : Prop := (d = 0 ∧ y = c + 1 ∧ y % 8 ≠ 0) ∨ (d = 1 ∧ c = y + 1 ∧ c % 8 ≠ 0) ∨ (d = 2 ∧ y = c + 8) ∨ (d = 3 ∧ c = y + 8)
/-- the reference's -/
def ft_dy (c d y : Nat) : Prop := (d = 0 ∧ c = y + 8) ∨ (d = 1 ∧ y = c + 8) ∨ (d = 2 ∧ c = y + 1 ∧ c % 8 ≠ 0) ∨ (d = 3 ∧ y = c + 1 ∧ y % 8 ≠ 0)
theorem ft_dx_adj {c d y : Nat} (hc : c < 64) (hy : y < 64) (h : ft_dx c d y) : ft_adj c y := by
  unfold ft_dx at h
  unfold ft_adj
  omega
theorem ft_adj_dx {c y : Nat} (h : ft_adj c y) : ∃ d, d < 4 ∧ ft_dx c d y := by
  unfold ft_adj at h
  unfold ft_dx
  obtain ⟨h1, h2, h | h | h | h⟩ := h
  · exact ⟨0, by omega, by omega⟩
  · exact ⟨1, by omega, by omega⟩
  · exact ⟨2, by omega, by omega⟩
  · exact ⟨3, by omega, by omega⟩
theorem ft_dx_u {c d y z : Nat} (h : ft_dx c d y) (h' : ft_dx c d z) : y = z := by
  unfold ft_dx at h h'
  omega
theorem ft_dy_adj {c d y : Nat} (hc : c < 64) (hy : y < 64) (h : ft_dy c d y) : ft_adj c y := by
  unfold ft_dy at h
  unfold ft_adj
  omega
theorem ft_adj_dy {c y : Nat} (h : ft_adj c y) : ∃ d, d < 4 ∧ ft_dy c d y := by
  unfold ft_adj at h
  unfold ft_dy
  obtain ⟨h1, h2, h | h | h | h⟩ := h
  · exact ⟨3, by omega, by omega⟩
  · exact ⟨2, by omega, by omega⟩
  · exact ⟨1, by omega, by omega⟩
  · exact ⟨0, by omega, by omega⟩
theorem ft_dy_u {c d y z : Nat} (h : ft_dy c d y) (h' : ft_dy c d z) : y = z := by
  unfold ft_dy at h h'
  omega

/-! hanging together over cells of P -/
def ft_eP (P : Nat → Prop) (x y : Nat) : Prop := ft_adj x y ∧ P x
def ft_cn (P : Nat → Prop) (a c : Nat) : Prop := ft_cl (ft_eP P) (fun x => x = a ∧ P x) c
theorem ft_eP_lt {P : Nat → Prop} (x y : Nat) (h : ft_eP P x y) : x < 64 := h.1.1
theorem ft_cn_P {P : Nat → Prop} {a c : Nat} (h : ft_cn P a c) : P c := h P (fun _ s => s.2) (fun _ _ _ e => e.2)
theorem ft_cn_Pa {P : Nat → Prop} {a c : Nat} (h : ft_cn P a c) : P a := h (fun _ => P a) (fun _ s => s.1 ▸ s.2) (fun _ _ p _ => p)
theorem ft_cn_r {P : Nat → Prop} {a : Nat} (h : P a) : ft_cn P a a := ft_cl_s ⟨rfl, h⟩
theorem ft_cn_e {P : Nat → Prop} {a x y : Nat} (h : ft_cn P a y) (e : ft_adj x y) (p : P x) : ft_cn P a x := ft_cl_e h ⟨e, p⟩
theorem ft_cn_t {P : Nat → Prop} {a b c : Nat} (h : ft_cn P a b) (h' : ft_cn P b c) : ft_cn P a c :=
  h' (ft_cn P a) (fun _ s => s.1 ▸ h) (fun _ _ t e => ft_cn_e t e.1 e.2)
theorem ft_cn_c {P : Nat → Prop} {a c : Nat} (h : ft_cn P a c) : ft_cn P c a :=
  h (fun x => ft_cn P x a) (fun x s => by have := s.1; subst this; exact ft_cn_r s.2)
    (fun x y t e => ft_cn_t (ft_cn_e (ft_cn_r e.2) (ft_adj_c e.1) (ft_cn_Pa t)) t)
theorem ft_cn_m {P Q : Nat → Prop} (m : ∀ x, P x → Q x) {a c : Nat} (h : ft_cn P a c) : ft_cn Q a c :=
  h (ft_cn Q a) (fun x s => by have := s.1; subst this; exact ft_cn_r (m _ s.2)) (fun x y t e => ft_cn_e t e.1 (m _ e.2))
theorem ft_cn_lt {P : Nat → Prop} {a c : Nat} (ha : a < 64) (h : ft_cn P a c) : c < 64 :=
  ft_cl_lt (S := fun x => x = a ∧ P x) ft_eP_lt (fun x s => s.1 ▸ ha) h
theorem ft_full0 {P : Nat → Prop} (h : ∀ x, x < 64 → P x) : ∀ a, a < 64 → ft_cn P 0 a := by
  intro a
  induction a using Nat.strongRecOn with
  | ind a ih =>
    intro ha
    by_cases z : a = 0
    · subst z
      exact ft_cn_r (h 0 (by omega))
    · by_cases m : a % 8 = 0
      · exact ft_cn_e (ih (a - 8) (by omega) (by omega)) (by unfold ft_adj; omega) (h a ha)
      · exact ft_cn_e (ih (a - 1) (by omega) (by omega)) (by unfold ft_adj; omega) (h a ha)
theorem ft_full {P : Nat → Prop} (h : ∀ x, x < 64 → P x) {a c : Nat} (ha : a < 64) (hc : c < 64) : ft_cn P a c :=
  ft_cn_t (ft_cn_c (ft_full0 h a ha)) (ft_full0 h c hc)
/-! levels from sources B -/
def ft_lv (h : Nat → Int) (B : Nat → Prop) (t : Int) (c : Nat) : Prop := ft_cl (ft_eP (fun x => h x ≤ t)) (fun x => B x ∧ h x ≤ t) c
def ft_seal (h : Nat → Int) (B : Nat → Prop) (m : Nat → Int) : Prop := ∀ c, c < 64 → ∀ t : Int, t < 100 → (m c ≤ t ↔ ft_lv h B t c)
theorem ft_lv_cn {h : Nat → Int} {a : Nat} {t : Int} {c : Nat} : ft_lv h (fun x => x = a) t c ↔ ft_cn (fun x => h x ≤ t) a c := Iff.rfl
theorem ft_lv_99 {h : Nat → Int} {B : Nat → Prop} {b : Nat} (hh : ∀ x, x < 64 → h x ≤ 99) (hb : b < 64) (B1 : B b) {c : Nat} (hc : c < 64) : ft_lv h B 99 c :=
  ft_full (P := fun x => h x ≤ 99) hh hb hc (ft_lv h B 99) (fun x s => by have := s.1; subst this; exact ft_cl_s ⟨B1, s.2⟩) (fun x y t e => ft_cl_e t e)
theorem ft_seal_99 {h : Nat → Int} {B : Nat → Prop} {m : Nat → Int} {b : Nat} (hh : ∀ x, x < 64 → h x ≤ 99) (hb : b < 64) (B1 : B b) (s : ft_seal h B m) {c : Nat} (hc : c < 64) : m c ≤ 99 :=
  (s c hc 99 (by omega)).mpr (ft_lv_99 hh hb B1 hc)
theorem ft_seal_u {h : Nat → Int} {B : Nat → Prop} {m m' : Nat → Int} {b : Nat} (hh : ∀ x, x < 64 → h x ≤ 99) (hb : b < 64) (B1 : B b) (s : ft_seal h B m) (s' : ft_seal h B m') {c : Nat} (hc : c < 64) : m c = m' c := by
  have h1 := ft_seal_99 hh hb B1 s hc
  have h2 := ft_seal_99 hh hb B1 s' hc
  have h3 : m' c ≤ m c := (s' c hc (m c) (by omega)).mpr ((s c hc (m c) (by omega)).mp (Int.le_refl _))
  have h4 : m c ≤ m' c := (s c hc (m' c) (by omega)).mpr ((s' c hc (m' c) (by omega)).mp (Int.le_refl _))
  omega
end
section
/-! branches by ints; the small methods -/
theorem ft_bl {x y : Int32} {A B : Prop} (f : x.toInt ≤ y.toInt → A) (g : y.toInt < x.toInt → B) : (x ≤ y → A) ∧ (¬ x ≤ y → B) :=
  ⟨fun h => f (Int32.le_iff_toInt_le.mp h), fun h => g (by rw [Int32.le_iff_toInt_le] at h; omega)⟩
theorem ft_bt {x y : Int32} {A B : Prop} (f : x.toInt < y.toInt → A) (g : y.toInt ≤ x.toInt → B) : (x < y → A) ∧ (¬ x < y → B) :=
  ⟨fun h => f (Int32.lt_iff_toInt_lt.mp h), fun h => g (by rw [Int32.lt_iff_toInt_lt] at h; omega)⟩
theorem ft_be {x y : Int32} {A B : Prop} (f : x.toInt = y.toInt → A) (g : x.toInt ≠ y.toInt → B) : (x = y → A) ∧ (¬ x = y → B) :=
  ⟨fun h => f (h ▸ rfl), fun h => g (fun e => h (Int32.toInt_inj.mp e))⟩
theorem ft_at {P : Int32 → Prop} {x y : Int32} (e : x = y) (h : P y) : P x := e ▸ h
theorem ft_i0 : (0 : Int32).toInt = 0 := by decide
theorem ft_i1 : (1 : Int32).toInt = 1 := by decide
theorem ft_im1 : (-1 : Int32).toInt = -1 := by decide
theorem ft_i99 : (99 : Int32).toInt = 99 := by decide
theorem ft_im99 : (-99 : Int32).toInt = -99 := by decide
theorem ft_i100 : (100 : Int32).toInt = 100 := by decide
theorem ft_n0 : vp_nar .boolean 0 = 0 := rfl
theorem ft_n1 : vp_nar .boolean 1 = 1 := rfl
theorem ft_cell (x : Int32) : (x < 0 ∨ nI 64 ≤ x) ∨ ∃ c : Nat, c < 64 ∧ x = nI c := by
  rcases pk_ix x (n := 64) (by decide) with h | h | h
  · exact Or.inl (Or.inl h)
  · exact Or.inl (Or.inr h)
  · exact Or.inr h
theorem fx_bad_ok {post : Int32 → Prop} {c : Nat} (hc : c < 64) (h : post 0) : wpX_bad post (nI c) :=
  br_f (nI_pos (by omega)) (pk_lt c 64 (fun _ => h) (fun z => absurd hc (by omega)))
theorem fx_bad_no {post : Int32 → Prop} {x : Int32} (hx : x < 0 ∨ nI 64 ≤ x) (h : post 1) : wpX_bad post x := by
  by_cases z : x < 0
  · exact br_t z h
  · rcases hx with hx | hx
    · exact br_t hx h
    · exact br_f z (br_f (Int32.not_lt.mpr hx) h)
theorem fy_bad_ok {post : Int32 → Prop} {ah m : Nat → Int32} {c : Nat} (hc : c < 64) (h : post 0) : wpY_bad post (ah, m) (nI c) :=
  br_f (nI_pos (by omega)) (pk_le c 63 (fun _ => h) (fun z => absurd hc (by omega)))
theorem fy_bad_no {post : Int32 → Prop} {ah m : Nat → Int32} {x : Int32} (hx : x < 0 ∨ nI 64 ≤ x) (h : post 1) : wpY_bad post (ah, m) x := by
  by_cases z : x < 0
  · exact br_t z h
  · rcases hx with hx | hx
    · exact br_t hx h
    · refine br_f z (br_f (fun q => ?_) h)
      rw [Int32.le_iff_toInt_le] at hx q
      rw [nI_toInt (by decide)] at hx
      rw [show (63 : Int32).toInt = 63 by decide] at q
      omega
theorem fx_border {post : Int32 → Prop} {c : Nat} (hc : c < 64) (H1 : ft_bd c → post 1) (H0 : ¬ ft_bd c → post 0) : wpX_border post (nI c) :=
  And.intro (by decide) (nm_r (e' := nI (c / 8)) (pk_div (a := c) (d := 8) (by omega) (by omega) (by omega))
    (And.intro (by decide) (nm_r (e' := nI (c % 8)) (pk_rem (a := c) (d := 8) (by omega) (by omega) (by omega))
      (pk_eq (c / 8) 0 (fun e => H1 (by unfold ft_bd; omega)) (fun e1 =>
        pk_eq (c / 8) 7 (fun e => H1 (by unfold ft_bd; omega)) (fun e2 =>
          pk_eq (c % 8) 0 (fun e => H1 (by unfold ft_bd; omega)) (fun e3 =>
            pk_eq (c % 8) 7 (fun e => H1 (by unfold ft_bd; omega)) (fun e4 => H0 (by unfold ft_bd; omega)))))))))
theorem fy_border {post : Int32 → Prop} {ah m : Nat → Int32} {c : Nat} (hc : c < 64) (H1 : ft_bd c → post 1) (H0 : ¬ ft_bd c → post 0) : wpY_border post (ah, m) (nI c) :=
  pk_lt c 8 (fun e => H1 (by unfold ft_bd; omega)) (fun e1 =>
    pk_lt 55 c (fun e => H1 (by unfold ft_bd; omega)) (fun e2 =>
      And.intro (by decide) (pk_eq (c % 8) 0 (fun e => H1 (by unfold ft_bd; omega)) (fun e3 =>
        And.intro (by decide) (pk_eq (c % 8) 7 (fun e => H1 (by unfold ft_bd; omega)) (fun e4 => H0 (by unfold ft_bd; omega))
          (hx := pk_rem (a := c) (d := 8) (by omega) (by omega) (by omega))))
        (hx := pk_rem (a := c) (d := 8) (by omega) (by omega) (by omega)))))
theorem fx_nb {post : Int32 → Prop} {c d : Nat} (hc : c < 64) (hd : d < 4) (H0 : (∀ y, y < 64 → ¬ ft_dx c d y) → post (-1)) (H1 : ∀ y, y < 64 → ft_dx c d y → post (nI y)) : wpX_neighbour post (nI c) (nI d) :=
  And.intro (by decide) (nm_r (e' := nI (c / 8)) (pk_div (a := c) (d := 8) (by omega) (by omega) (by omega))
    (And.intro (by decide) (nm_r (e' := nI (c % 8)) (pk_rem (a := c) (d := 8) (by omega) (by omega) (by omega))
      (pk_eq d 0 (fun e => pk_le 8 (c % 8 + 1) (fun h => H0 (fun y hy q => by unfold ft_dx at q; omega))
          (fun h => ft_at (P := post) (nI_1 c) (H1 (c + 1) (by omega) (by unfold ft_dx; omega))) (hy := nI_1 (c % 8)))
        (fun e0 => pk_eq d 1 (fun e => pk_le (c % 8) 0 (fun h => H0 (fun y hy q => by unfold ft_dx at q; omega))
            (fun h => ft_at (P := post) (pk_sub (a := c) (b := 1) (by omega)) (H1 (c - 1) (by omega) (by unfold ft_dx; omega))))
          (fun e1 => pk_eq d 2 (fun e => pk_le 8 (c / 8 + 1) (fun h => H0 (fun y hy q => by unfold ft_dx at q; omega))
              (fun h => ft_at (P := post) (nI_add c 8) (H1 (c + 8) (by omega) (by unfold ft_dx; omega))) (hy := nI_1 (c / 8)))
            (fun e2 => pk_le (c / 8) 0 (fun h => H0 (fun y hy q => by unfold ft_dx at q; omega))
              (fun h => ft_at (P := post) (pk_sub (a := c) (b := 8) (by omega)) (H1 (c - 8) (by omega) (by unfold ft_dx; omega))))))))))
theorem fy_nb {post : Int32 → Prop} {ah m : Nat → Int32} {c d : Nat} (hc : c < 64) (hd : d < 4) (H0 : (∀ y, y < 64 → ¬ ft_dy c d y) → post (-1)) (H1 : ∀ y, y < 64 → ft_dy c d y → post (nI y)) : wpY_beside post (ah, m) (nI c) (nI d) :=
  pk_eq d 0 (fun e => pk_le 8 c (fun h => ft_at (P := post) (pk_sub (a := c) (b := 8) (by omega)) (H1 (c - 8) (by omega) (by unfold ft_dy; omega)))
      (fun h => H0 (fun y hy q => by unfold ft_dy at q; omega)))
    (fun e0 => pk_eq d 1 (fun e => pk_le c 55 (fun h => ft_at (P := post) (nI_add c 8) (H1 (c + 8) (by omega) (by unfold ft_dy; omega)))
        (fun h => H0 (fun y hy q => by unfold ft_dy at q; omega)))
      (fun e1 => pk_eq d 2 (fun e => And.intro (by decide) (pk_eq (c % 8) 0 (fun h => H0 (fun y hy q => by unfold ft_dy at q; omega))
            (fun h => ft_at (P := post) (pk_sub (a := c) (b := 1) (by omega)) (H1 (c - 1) (by omega) (by unfold ft_dy; omega)))
            (hx := pk_rem (a := c) (d := 8) (by omega) (by omega) (by omega))))
          (fun e2 => And.intro (by decide) (pk_eq (c % 8) 7 (fun h => H0 (fun y hy q => by unfold ft_dy at q; omega))
            (fun h => ft_at (P := post) (nI_1 c) (H1 (c + 1) (by omega) (by unfold ft_dy; omega)))
            (hx := pk_rem (a := c) (d := 8) (by omega) (by omega) (by omega))))))
theorem fx_within {post : Int32 → Prop} {x l h : Int32} (H : ∀ r : Int32, r.toInt = (if x.toInt < l.toInt then l.toInt else if h.toInt < x.toInt then h.toInt else x.toInt) → post r) : wpX_within post x l h :=
  ft_bl (fun h1 => ft_bl (fun h2 => H x (by rw [if_neg (by omega), if_neg (by omega)])) (fun h2 => H h (by rw [if_neg (by omega), if_pos (by omega)]))) (fun h1 => H l (by rw [if_pos (by omega)]))
theorem fy_least {post : Int32 → Prop} {ah m : Nat → Int32} {a b : Int32} (H : ∀ r : Int32, r.toInt = min a.toInt b.toInt → post r) : wpY_least post (ah, m) a b :=
  ft_bl (fun h => H b (by omega)) (fun h => H a (by omega))
theorem fy_most {post : Int32 → Prop} {ah m : Nat → Int32} {a b : Int32} (H : ∀ r : Int32, r.toInt = max a.toInt b.toInt → post r) : wpY_most post (ah, m) a b :=
  ft_bl (fun h => H b (by omega)) (fun h => H a (by omega))

/-! the directions below d, of D -/
def ft_pd (D : Nat → Nat → Nat → Prop) (c d : Nat) (Q : Nat → Prop) : Prop := ∃ e y, e < d ∧ D c e y ∧ y < 64 ∧ Q y
theorem ft_pd_0 {D : Nat → Nat → Nat → Prop} {c : Nat} {Q : Nat → Prop} : ¬ ft_pd D c 0 Q := fun ⟨_, _, h, _⟩ => absurd h (Nat.not_lt_zero _)
theorem ft_pd_n {D : Nat → Nat → Nat → Prop} {c d : Nat} {Q : Nat → Prop} (h : ∀ y, y < 64 → ¬ D c d y) : ft_pd D c (d + 1) Q ↔ ft_pd D c d Q := by
  constructor
  · rintro ⟨e, y, he, hd, hy, q⟩
    refine ⟨e, y, ?_, hd, hy, q⟩
    have : e ≠ d := fun z => h y hy (z ▸ hd)
    omega
  · rintro ⟨e, y, he, hd, hy, q⟩
    exact ⟨e, y, by omega, hd, hy, q⟩
theorem ft_pd_y {D : Nat → Nat → Nat → Prop} (u : ∀ c d y z, D c d y → D c d z → y = z) {c d y : Nat} {Q : Nat → Prop} (hy : y < 64) (h : D c d y) : ft_pd D c (d + 1) Q ↔ ft_pd D c d Q ∨ Q y := by
  constructor
  · rintro ⟨e, z, he, hd, hz, q⟩
    by_cases q1 : e = d
    · subst q1
      have := u _ _ _ _ h hd
      subst this
      exact Or.inr q
    · exact Or.inl ⟨e, z, by omega, hd, hz, q⟩
  · rintro (⟨e, z, he, hd, hz, q⟩ | q)
    · exact ⟨e, z, by omega, hd, hz, q⟩
    · exact ⟨d, y, by omega, h, hy, q⟩
theorem ft_px_y {c d y : Nat} {Q : Nat → Prop} (hy : y < 64) (h : ft_dx c d y) : ft_pd ft_dx c (d + 1) Q ↔ ft_pd ft_dx c d Q ∨ Q y :=
  ft_pd_y (D := ft_dx) (fun _ _ _ _ => ft_dx_u) hy h
theorem ft_py_y {c d y : Nat} {Q : Nat → Prop} (hy : y < 64) (h : ft_dy c d y) : ft_pd ft_dy c (d + 1) Q ↔ ft_pd ft_dy c d Q ∨ Q y :=
  ft_pd_y (D := ft_dy) (fun _ _ _ _ => ft_dy_u) hy h
theorem ft_px_4 {c : Nat} {Q : Nat → Prop} (hc : c < 64) : ft_pd ft_dx c 4 Q ↔ ∃ y, ft_adj c y ∧ Q y := by
  constructor
  · rintro ⟨e, y, he, hd, hy, q⟩
    exact ⟨y, ft_dx_adj hc hy hd, q⟩
  · rintro ⟨y, a, q⟩
    obtain ⟨d, hd, h⟩ := ft_adj_dx a
    exact ⟨d, y, hd, h, a.2.1, q⟩
theorem ft_py_4 {c : Nat} {Q : Nat → Prop} (hc : c < 64) : ft_pd ft_dy c 4 Q ↔ ∃ y, ft_adj c y ∧ Q y := by
  constructor
  · rintro ⟨e, y, he, hd, hy, q⟩
    exact ⟨y, ft_dy_adj hc hy hd, q⟩
  · rintro ⟨y, a, q⟩
    obtain ⟨d, hd, h⟩ := ft_adj_dy a
    exact ⟨d, y, hd, h, a.2.1, q⟩

/-! the reference's looks at neighbours -/
theorem fy_lb5 {post : Int32 → Prop} {ah m : Nat → Int32} {c : Nat} (hc : c < 64)
    (H : ∀ r : Int32, (∀ t : Int, r.toInt ≤ t ↔ 100 ≤ t ∨ ∃ y, ft_adj c y ∧ (m y).toInt ≤ t) → post r) :
    ∀ (n d : Nat) (b : Int32), d ≤ 4 → 4 < d + n → (∀ t : Int, b.toInt ≤ t ↔ 100 ≤ t ∨ ft_pd ft_dy c d (fun y => (m y).toInt ≤ t)) → wY_leastBeside_5 post (nI c) ah m n b (nI d) := by
  intro n
  induction n with
  | zero => intro d b h1 h2; omega
  | succ n ih =>
    intro d b h1 h2 hb
    refine pk_le 4 d (fun h => H b ?_) (fun h => fy_nb hc (by omega) (fun hn => ?_) (fun y hy hd => ?_))
    · have e : d = 4 := by omega
      subst e
      intro t
      rw [hb t, ft_py_4 hc]
    · refine br_t (by decide) (nm_r (nI_1 d) (ih (d + 1) b (by omega) (by omega) (fun t => ?_)))
      rw [hb t, ft_pd_n hn]
    · refine br_f (nI_pos (by omega)) (And.intro (vp_in_nI hy (by decide)) (fy_least (fun r hr => nm_r (nI_1 d) (ih (d + 1) r (by omega) (by omega) (fun t => ?_)))))
      rw [nI_clamp (by omega)] at hr
      rw [ft_py_y hy hd, ← or_assoc, ← hb t]
      omega
theorem fy_lb {post : Int32 → Prop} {ah m : Nat → Int32} {c : Nat} (hc : c < 64)
    (H : ∀ r : Int32, (∀ t : Int, r.toInt ≤ t ↔ 100 ≤ t ∨ ∃ y, ft_adj c y ∧ (m y).toInt ≤ t) → post r) : wpY_leastBeside post (ah, m) (nI c) :=
  ⟨5, fy_lb5 hc H 5 0 100 (by omega) (by omega) (fun t => by rw [ft_i100]; exact ⟨Or.inl, fun h => h.elim id (fun q => absurd q ft_pd_0)⟩)⟩
theorem fy_mb4 {post : Int32 → Prop} {ah m : Nat → Int32} {c : Nat} (hc : c < 64)
    (H : ∀ r : Int32, (∀ t : Int, t ≤ r.toInt ↔ t ≤ -1 ∨ ∃ y, ft_adj c y ∧ t ≤ (m y).toInt) → post r) :
    ∀ (n d : Nat) (b : Int32), d ≤ 4 → 4 < d + n → (∀ t : Int, t ≤ b.toInt ↔ t ≤ -1 ∨ ft_pd ft_dy c d (fun y => t ≤ (m y).toInt)) → wY_mostBeside_4 post (nI c) ah m n b (nI d) := by
  intro n
  induction n with
  | zero => intro d b h1 h2; omega
  | succ n ih =>
    intro d b h1 h2 hb
    refine pk_le 4 d (fun h => H b ?_) (fun h => fy_nb hc (by omega) (fun hn => ?_) (fun y hy hd => ?_))
    · have e : d = 4 := by omega
      subst e
      intro t
      rw [hb t, ft_py_4 hc]
    · refine br_t (by decide) (nm_r (nI_1 d) (ih (d + 1) b (by omega) (by omega) (fun t => ?_)))
      rw [hb t, ft_pd_n hn]
    · refine br_f (nI_pos (by omega)) (And.intro (vp_in_nI hy (by decide)) (fy_most (fun r hr => nm_r (nI_1 d) (ih (d + 1) r (by omega) (by omega) (fun t => ?_)))))
      rw [nI_clamp (by omega)] at hr
      rw [ft_py_y hy hd, ← or_assoc, ← hb t]
      omega
theorem fy_mb {post : Int32 → Prop} {ah m : Nat → Int32} {c : Nat} (hc : c < 64)
    (H : ∀ r : Int32, (∀ t : Int, t ≤ r.toInt ↔ t ≤ -1 ∨ ∃ y, ft_adj c y ∧ t ≤ (m y).toInt) → post r) : wpY_mostBeside post (ah, m) (nI c) :=
  ⟨5, fy_mb4 hc H 5 0 (-1) (by omega) (by omega) (fun t => by rw [ft_im1]; exact ⟨Or.inl, fun h => h.elim id (fun q => absurd q ft_pd_0)⟩)⟩
theorem fy_la9 {post : Int32 → Prop} {ah m : Nat → Int32} {c : Nat} (hc : c < 64)
    (H : ∀ r : Int32, (∀ t : Int, r.toInt ≤ t ↔ (m c).toInt ≤ t ∨ ∃ y, ft_adj c y ∧ (ah y).toInt = (ah c).toInt ∧ (m y).toInt ≤ t) → post r) :
    ∀ (n d : Nat) (b : Int32), d ≤ 4 → 4 < d + n → (∀ t : Int, b.toInt ≤ t ↔ (m c).toInt ≤ t ∨ ft_pd ft_dy c d (fun y => (ah y).toInt = (ah c).toInt ∧ (m y).toInt ≤ t)) → wY_leastAlike_9 post (nI c) ah m n b (nI d) := by
  intro n
  induction n with
  | zero => intro d b h1 h2; omega
  | succ n ih =>
    intro d b h1 h2 hb
    refine pk_le 4 d (fun h => H b ?_) (fun h => fy_nb hc (by omega) (fun hn => ?_) (fun y hy hd => ?_))
    · have e : d = 4 := by omega
      subst e
      intro t
      rw [hb t, ft_py_4 hc]
    · refine br_t (by decide) (nm_r (nI_1 d) (ih (d + 1) b (by omega) (by omega) (fun t => ?_)))
      rw [hb t, ft_pd_n hn]
    · refine br_f (nI_pos (by omega)) (And.intro (vp_in_nI hy (by decide)) (And.intro (vp_in_nI hc (by decide)) (ft_be (fun e => And.intro (vp_in_nI hy (by decide)) (fy_least (fun r hr => nm_r (nI_1 d) (ih (d + 1) r (by omega) (by omega) (fun t => ?_))))) (fun e => nm_r (nI_1 d) (ih (d + 1) b (by omega) (by omega) (fun t => ?_))))))
      · rw [nI_clamp (by omega)] at hr
        rw [nI_clamp (by omega), nI_clamp (by omega)] at e
        rw [ft_py_y hy hd, ← or_assoc, ← hb t]
        omega
      · rw [nI_clamp (by omega), nI_clamp (by omega)] at e
        rw [ft_py_y hy hd, ← or_assoc, ← hb t]
        omega
theorem fy_la {post : Int32 → Prop} {ah m : Nat → Int32} {c : Nat} (hc : c < 64)
    (H : ∀ r : Int32, (∀ t : Int, r.toInt ≤ t ↔ (m c).toInt ≤ t ∨ ∃ y, ft_adj c y ∧ (ah y).toInt = (ah c).toInt ∧ (m y).toInt ≤ t) → post r) : wpY_leastAlike post (ah, m) (nI c) :=
  And.intro (vp_in_nI hc (by decide)) (nm_r (e' := m c) (by rw [nI_clamp (by omega)]) ⟨5, fy_la9 hc H 5 0 (m c) (by omega) (by omega) (fun t => ⟨Or.inl, fun h => h.elim id (fun q => absurd q ft_pd_0)⟩)⟩)
theorem fy_hh2 {post : Int32 → Prop} {ah m : Nat → Int32} {c : Nat} (hc : c < 64)
    (H1 : (∃ y, ft_adj c y ∧ (ah c).toInt < (ah y).toInt) → post 1) (H0 : (¬ ∃ y, ft_adj c y ∧ (ah c).toInt < (ah y).toInt) → post 0) :
    ∀ (n d : Nat), d ≤ 4 → 4 < d + n → (¬ ft_pd ft_dy c d (fun y => (ah c).toInt < (ah y).toInt)) → wY_hasHigher_2 post (nI c) ah m n (nI d) := by
  intro n
  induction n with
  | zero => intro d h1 h2; omega
  | succ n ih =>
    intro d h1 h2 hb
    refine pk_le 4 d (fun h => H0 ?_) (fun h => fy_nb hc (by omega) (fun hn => ?_) (fun y hy hd => ?_))
    · have e : d = 4 := by omega
      subst e
      rwa [← ft_py_4 hc]
    · refine br_t (by decide) (nm_r (nI_1 d) (ih (d + 1) (by omega) (by omega) ?_))
      rwa [ft_pd_n hn]
    · refine br_f (nI_pos (by omega)) (And.intro (vp_in_nI hy (by decide)) (And.intro (vp_in_nI hc (by decide)) (ft_bl (fun e => nm_r (nI_1 d) (ih (d + 1) (by omega) (by omega) ?_)) (fun e => H1 ?_))))
      · rw [nI_clamp (by omega), nI_clamp (by omega)] at e
        rw [ft_py_y hy hd]
        rintro (q | q)
        · exact hb q
        · omega
      · rw [nI_clamp (by omega), nI_clamp (by omega)] at e
        exact ⟨y, ft_dy_adj hc hy hd, e⟩
theorem fy_hh {post : Int32 → Prop} {ah m : Nat → Int32} {c : Nat} (hc : c < 64)
    (H1 : (∃ y, ft_adj c y ∧ (ah c).toInt < (ah y).toInt) → post 1) (H0 : (¬ ∃ y, ft_adj c y ∧ (ah c).toInt < (ah y).toInt) → post 0) : wpY_hasHigher post (ah, m) (nI c) :=
  ⟨5, fy_hh2 hc H1 H0 5 0 (by omega) (by omega) ft_pd_0⟩
end
section
/-! the reference's sweeps, each as a closure for every threshold -/
theorem ft_up {m : Nat → Int32} {c : Nat} {w : Int32} (hc : c < 64) : upd m (nI c).toNatClampNeg w = upd m c w := by rw [nI_clamp (by omega)]
theorem ft_cl_cn {P S : Nat → Prop} (hS : ∀ x, S x → P x) {x : Nat} : ft_cl (ft_eP P) S x ↔ ∃ y, S y ∧ ft_cn P y x := by
  constructor
  · intro h
    exact h (fun x => ∃ y, S y ∧ ft_cn P y x) (fun x s => ⟨x, s, ft_cn_r (hS x s)⟩) (fun x y ⟨z, s, t⟩ e => ⟨z, s, ft_cn_e t e.1 e.2⟩)
  · rintro ⟨y, s, h⟩
    exact h (ft_cl (ft_eP P) S) (fun z q => by have := q.1; subst this; exact ft_cl_s s) (fun _ _ t e => ft_cl_e t e)
def fy_IL (ah : Nat → Int32) (B : Nat → Prop) (k c : Nat) (m : Nat → Int32) : Prop :=
  ∀ t : Int, t < 100 → ft_inv (ft_eP (fun x => (ah x).toInt ≤ t)) (fun x => B x ∧ (ah x).toInt ≤ t) k c (fun x => x < 64 ∧ (m x).toInt ≤ t)
theorem fy_low10 {post : SY → Prop} {J2 : Int32 → (Nat → Int32) → (Nat → Int32) → Prop} {ah : Nat → Int32} {B : Nat → Prop} {k : Nat}
    (HJ : ∀ m, fy_IL ah B k 64 m → J2 (nI (k + 1)) ah m) :
    ∀ (n c : Nat) (m : Nat → Int32), c ≤ 64 → 64 < c + n → fy_IL ah B k c m → wY_lower_10 post J2 (nI k) n (nI c) ah m := by
  intro n
  induction n with
  | zero => intro c m h1 h2; omega
  | succ n ih =>
    intro c m h1 h2 I
    refine pk_le 64 c (fun h => nm_r (nI_1 k) (HJ m ?_)) (fun h => fy_lb h (fun r hr => And.intro (vp_in_nI h (by decide)) (fy_most (fun s hs => And.intro (vp_in_nI h (by decide)) (fy_least (fun w hw => And.intro (vp_in_nI h (by decide)) (nm_r (e' := upd m c w) (ft_up h) (nm_r (nI_1 c) (ih (c + 1) (upd m c w) (by omega) (by omega) ?_))))))))) 
    · have e : c = 64 := by omega
      subst e
      exact I
    · rw [nI_clamp (by omega)] at hs hw
      intro t ht
      refine ft_inv_s (I t ht) (fun x => ?_)
      by_cases e : x = c
      · subst e
        rw [pk_us]
        constructor
        · rintro ⟨_, q⟩
          by_cases q1 : (m x).toInt ≤ t
          · exact Or.inl ⟨h, q1⟩
          · have q2 : r.toInt ≤ t ∧ (ah x).toInt ≤ t := by omega
            rcases (hr t).mp q2.1 with z | ⟨y, a, z⟩
            · omega
            · exact Or.inr ⟨rfl, y, ⟨a, q2.2⟩, a.2.1, z⟩
        · rintro (⟨_, q⟩ | ⟨_, y, ⟨a, p⟩, _, z⟩)
          · exact ⟨h, by omega⟩
          · have z1 := (hr t).mpr (Or.inr ⟨y, a, z⟩)
            have p1 : (ah x).toInt ≤ t := p
            exact ⟨h, by omega⟩
      · rw [pk_un e]
        exact ⟨Or.inl, fun q => q.elim id (fun z => absurd z.1 e)⟩
theorem fy_low2 {post : SY → Prop} {ah : Nat → Int32} {B : Nat → Prop} (hB : ∀ x, B x → x < 64)
    (H : ∀ m : Nat → Int32, ft_seal (fun x => (ah x).toInt) B (fun x => (m x).toInt) → post (ah, m)) :
    ∀ (n k : Nat) (m : Nat → Int32), k ≤ 64 → 64 < k + n → fy_IL ah B k 0 m → wY_lower_2 post n (nI k) ah m := by
  intro n
  induction n with
  | zero => intro k m h1 h2; omega
  | succ n ih =>
    intro k m h1 h2 I
    refine pk_le 64 k (fun h => H m ?_) (fun h => ⟨65, fy_low10 (fun m' I' => ih (k + 1) m' (by omega) (by omega) (fun t ht => ft_inv_n ft_eP_lt (fun x s => hB x s.1) (I' t ht))) 65 0 m (by omega) (by omega) I⟩)
    have e : k = 64 := by omega
    subst e
    intro c hc t ht
    have z := ft_inv_e ft_eP_lt (fun x s => hB x s.1) (I t ht) c
    exact ⟨fun q => z.mp ⟨hc, q⟩, fun q => (z.mpr q).2⟩
theorem fy_IL_0 {ah : Nat → Int32} {B : Nat → Prop} {m : Nat → Int32} (hB : ∀ x, B x → x < 64) (h1 : ∀ x, x < 64 → B x → m x = ah x) (h0 : ∀ x, x < 64 → ¬ B x → m x = 100) : fy_IL ah B 0 0 m := by
  intro t ht
  refine ft_inv_0 (fun x => ⟨fun q => ?_, fun q => ⟨hB x q.1, ?_⟩⟩)
  · by_cases b : B x
    · rw [h1 x q.1 b] at q
      exact ⟨b, q.2⟩
    · have q2 := q.2
      rw [h0 x q.1 b, ft_i100] at q2
      omega
  · rw [h1 x (hB x q.1) q.1]
    exact q.2
theorem fy_lev2 {post : SY → Prop} {ah : Nat → Int32} (H : ∀ m : Nat → Int32, ft_seal (fun x => (ah x).toInt) ft_bd (fun x => (m x).toInt) → post (ah, m)) :
    ∀ (n c : Nat) (m : Nat → Int32), c ≤ 64 → 64 < c + n → (∀ x, x < c → ft_bd x → m x = ah x) → (∀ x, x < c → ¬ ft_bd x → m x = 100) → wY_levels_2 post n (nI c) ah m := by
  intro n
  induction n with
  | zero => intro c m h1 h2; omega
  | succ n ih =>
    intro c m h1 h2 k1 k0
    refine pk_le 64 c (fun h => ⟨65, fy_low2 (fun x b => b.1) (fun m' s => H m' s) 65 0 m (by omega) (by omega) (fy_IL_0 (fun x b => b.1) (fun x hx => k1 x (by omega)) (fun x hx => k0 x (by omega)))⟩) (fun h => fy_border h (fun b => br_f (by decide) (And.intro (vp_in_nI h (by decide)) (And.intro (vp_in_nI h (by decide)) (nm_r (e' := upd m c (ah c)) (by rw [nI_clamp (by omega)]) (nm_r (nI_1 c) (ih (c + 1) _ (by omega) (by omega) ?_ ?_)))))) (fun b => br_t rfl (And.intro (vp_in_nI h (by decide)) (nm_r (e' := upd m c 100) (ft_up h) (nm_r (nI_1 c) (ih (c + 1) _ (by omega) (by omega) ?_ ?_))))))
    · intro x hx bx
      by_cases e : x = c
      · subst e; exact pk_us
      · rw [pk_un e]; exact k1 x (by omega) bx
    · intro x hx bx
      by_cases e : x = c
      · subst e; exact absurd b bx
      · rw [pk_un e]; exact k0 x (by omega) bx
    · intro x hx bx
      by_cases e : x = c
      · subst e; exact absurd bx b
      · rw [pk_un e]; exact k1 x (by omega) bx
    · intro x hx bx
      by_cases e : x = c
      · subst e; exact pk_us
      · rw [pk_un e]; exact k0 x (by omega) bx
theorem fy_levels {post : SY → Prop} {ah m : Nat → Int32} (H : ∀ m : Nat → Int32, ft_seal (fun x => (ah x).toInt) ft_bd (fun x => (m x).toInt) → post (ah, m)) : wpY_levels post (ah, m) :=
  ⟨65, fy_lev2 H 65 0 m (by omega) (by omega) (fun x hx => absurd hx (Nat.not_lt_zero x)) (fun x hx => absurd hx (Nat.not_lt_zero x))⟩
theorem fy_pas2 {post : SY → Prop} {ah : Nat → Int32} {a : Nat} (ha : a < 64) (H : ∀ m : Nat → Int32, ft_seal (fun x => (ah x).toInt) (fun x => x = a) (fun x => (m x).toInt) → post (ah, m)) :
    ∀ (n c : Nat) (m : Nat → Int32), c ≤ 64 → 64 < c + n → (∀ x, x < c → x = a → m x = ah x) → (∀ x, x < c → ¬ x = a → m x = 100) → wY_passes_2 post (nI a) n (nI c) ah m := by
  intro n
  induction n with
  | zero => intro c m h1 h2; omega
  | succ n ih =>
    intro c m h1 h2 k1 k0
    refine pk_le 64 c (fun h => ⟨65, fy_low2 (B := fun x => x = a) (fun x b => b ▸ ha) (fun m' s => H m' s) 65 0 m (by omega) (by omega) (fy_IL_0 (B := fun x => x = a) (fun x b => b ▸ ha) (fun x hx => k1 x (by omega)) (fun x hx => k0 x (by omega)))⟩) (fun h => pk_eq c a (fun b => (And.intro (vp_in_nI h (by decide)) (And.intro (vp_in_nI h (by decide)) (nm_r (e' := upd m c (ah c)) (by rw [nI_clamp (by omega)]) (nm_r (nI_1 c) (ih (c + 1) _ (by omega) (by omega) ?_ ?_)))))) (fun b => (And.intro (vp_in_nI h (by decide)) (nm_r (e' := upd m c 100) (ft_up h) (nm_r (nI_1 c) (ih (c + 1) _ (by omega) (by omega) ?_ ?_))))))
    · intro x hx bx
      by_cases e : x = c
      · rw [e]; exact pk_us
      · rw [pk_un e]; exact k1 x (by omega) bx
    · intro x hx bx
      by_cases e : x = c
      · exact absurd (e.trans b) bx
      · rw [pk_un e]; exact k0 x (by omega) bx
    · intro x hx bx
      by_cases e : x = c
      · exact absurd (e.symm.trans bx) b
      · rw [pk_un e]; exact k1 x (by omega) bx
    · intro x hx bx
      by_cases e : x = c
      · rw [e]; exact pk_us
      · rw [pk_un e]; exact k0 x (by omega) bx
theorem fy_passes {post : SY → Prop} {ah m : Nat → Int32} {a : Nat} (ha : a < 64) (H : ∀ m : Nat → Int32, ft_seal (fun x => (ah x).toInt) (fun x => x = a) (fun x => (m x).toInt) → post (ah, m)) : wpY_passes post (ah, m) (nI a) :=
  ⟨65, fy_pas2 ha H 65 0 m (by omega) (by omega) (fun x hx => absurd hx (Nat.not_lt_zero x)) (fun x hx => absurd hx (Nat.not_lt_zero x))⟩

/-! lakes -/
def ft_lk (ah : Nat → Int32) (x : Nat) : Prop := x < 64 ∧ ¬ ft_lv (fun y => (ah y).toInt) ft_bd (ah x).toInt x
theorem ft_lk_s {ah m : Nat → Int32} (hh : ∀ x, (ah x).toInt ≤ 99) (s : ft_seal (fun x => (ah x).toInt) ft_bd (fun x => (m x).toInt)) {x : Nat} (hx : x < 64) : ft_lk ah x ↔ (ah x).toInt < (m x).toInt := by
  have h9 := hh x
  have z := s x hx (ah x).toInt (by omega)
  have z1 : (m x).toInt ≤ (ah x).toInt ↔ ft_lv (fun y => (ah y).toInt) ft_bd (ah x).toInt x := z
  unfold ft_lk
  rw [← z1]
  omega
def fy_IK (ah : Nat → Int32) (k c : Nat) (m : Nat → Int32) : Prop :=
  (∀ x, x < 64 → ¬ ft_lk ah x → (m x).toInt = 100) ∧
  ∀ t : Int, t < 100 → ft_inv (ft_eP (ft_lk ah)) (fun x => ft_lk ah x ∧ (x : Int) ≤ t) k c (fun x => x < 64 ∧ (m x).toInt ≤ t)
theorem fy_IK_lk {ah m : Nat → Int32} {k c x : Nat} (I : fy_IK ah k c m) (hx : x < 64) : ft_lk ah x ↔ (m x).toInt < 100 := by
  constructor
  · intro h
    have := (I.2 99 (by omega)).2.1 x (ft_ck_S ⟨h, by omega⟩ k)
    omega
  · intro h
    refine Classical.byContradiction fun n => ?_
    have := I.1 x hx n
    omega
theorem fy_lm55 {post : SY → Prop} {J47 : Int32 → (Nat → Int32) → (Nat → Int32) → Prop} {ah : Nat → Int32} {k : Nat}
    (HJ : ∀ m, fy_IK ah k 64 m → J47 (nI (k + 1)) ah m) :
    ∀ (n c : Nat) (m : Nat → Int32), c ≤ 64 → 64 < c + n → fy_IK ah k c m → wY_lakeMarks_55 post J47 (nI k) n (nI c) ah m := by
  intro n
  induction n with
  | zero => intro c m h1 h2; omega
  | succ n ih =>
    intro c m h1 h2 I
    refine pk_le 64 c (fun h => nm_r (nI_1 k) (HJ m ?_)) (fun h => And.intro (vp_in_nI h (by decide)) (ft_bl (fun g => nm_r (nI_1 c) (ih (c + 1) m (by omega) (by omega) ?_)) (fun g => fy_lb h (fun r hr => And.intro (vp_in_nI h (by decide)) (fy_least (fun w hw => And.intro (vp_in_nI h (by decide)) (nm_r (e' := upd m c w) (ft_up h) (nm_r (nI_1 c) (ih (c + 1) (upd m c w) (by omega) (by omega) ?_)))))))))
    · have e : c = 64 := by omega
      subst e
      exact I
    · rw [nI_clamp (by omega), ft_i100] at g
      have nl : ¬ ft_lk ah c := fun q => by have := (fy_IK_lk I h).mp q; omega
      refine ⟨I.1, fun t ht => ft_inv_s (I.2 t ht) (fun x => ⟨Or.inl, fun q => q.elim id (fun z => ?_)⟩)⟩
      obtain ⟨_, y, e, _⟩ := z
      exact absurd e.2 nl
    · rw [nI_clamp (by omega), ft_i100] at g
      rw [nI_clamp (by omega)] at hw
      have l : ft_lk ah c := (fy_IK_lk I h).mpr g
      refine ⟨fun x hx nx => ?_, fun t ht => ft_inv_s (I.2 t ht) (fun x => ?_)⟩
      · have e : x ≠ c := fun e => nx (e ▸ l)
        rw [pk_un e]
        exact I.1 x hx nx
      · by_cases e : x = c
        · subst e
          rw [pk_us]
          constructor
          · rintro ⟨_, q⟩
            by_cases q1 : (m x).toInt ≤ t
            · exact Or.inl ⟨h, q1⟩
            · rcases (hr t).mp (by omega) with z | ⟨y, a, z⟩
              · omega
              · exact Or.inr ⟨rfl, y, ⟨a, l⟩, a.2.1, z⟩
          · rintro (⟨_, q⟩ | ⟨_, y, ⟨a, p⟩, _, z⟩)
            · exact ⟨h, by omega⟩
            · have z1 := (hr t).mpr (Or.inr ⟨y, a, z⟩)
              exact ⟨h, by omega⟩
        · rw [pk_un e]
          exact ⟨Or.inl, fun q => q.elim id (fun z => absurd z.1 e)⟩
/-- what lakeMarks leaves -/
def fy_LM (ah m : Nat → Int32) : Prop :=
  (∀ x, x < 64 → ¬ ft_lk ah x → (m x).toInt = 100) ∧ ∀ x, x < 64 → ∀ t : Int, t < 100 → ((m x).toInt ≤ t ↔ ∃ y : Nat, (y : Int) ≤ t ∧ ft_cn (ft_lk ah) y x)
theorem fy_lm47 {post : SY → Prop} {ah : Nat → Int32} (H : ∀ m : Nat → Int32, fy_LM ah m → post (ah, m)) :
    ∀ (n k : Nat) (m : Nat → Int32), k ≤ 64 → 64 < k + n → fy_IK ah k 0 m → wY_lakeMarks_47 post n (nI k) ah m := by
  intro n
  induction n with
  | zero => intro k m h1 h2; omega
  | succ n ih =>
    intro k m h1 h2 I
    refine pk_le 64 k (fun h => H m ?_) (fun h => ⟨65, fy_lm55 (fun m' I' => ih (k + 1) m' (by omega) (by omega) ⟨I'.1, fun t ht => ft_inv_n ft_eP_lt (fun x s => s.1.1) (I'.2 t ht)⟩) 65 0 m (by omega) (by omega) I⟩)
    have e : k = 64 := by omega
    subst e
    refine ⟨I.1, fun x hx t ht => ?_⟩
    have z := ft_inv_e ft_eP_lt (fun x s => s.1.1) (I.2 t ht) x
    rw [ft_cl_cn (fun x s => s.1)] at z
    constructor
    · intro q
      obtain ⟨y, s, c⟩ := z.mp ⟨hx, q⟩
      exact ⟨y, s.2, c⟩
    · rintro ⟨y, s, c⟩
      exact (z.mpr ⟨y, ⟨ft_cn_Pa c, s⟩, c⟩).2
theorem fy_lm6 {post : SY → Prop} {ah m0 : Nat → Int32} (H : ∀ m : Nat → Int32, fy_LM ah m → post (ah, m)) (hl : ∀ x, x < 64 → (ft_lk ah x ↔ (ah x).toInt < (m0 x).toInt)) :
    ∀ (n c : Nat) (m : Nat → Int32), c ≤ 64 → 64 < c + n → (∀ x, c ≤ x → m x = m0 x) → (∀ x, x < c → ft_lk ah x → m x = nI x) → (∀ x, x < c → ¬ ft_lk ah x → m x = 100) → wY_lakeMarks_6 post n (nI c) ah m := by
  intro n
  induction n with
  | zero => intro c m h1 h2; omega
  | succ n ih =>
    intro c m h1 h2 k2 k1 k0
    refine pk_le 64 c (fun h => ⟨65, fy_lm47 H 65 0 m (by omega) (by omega) ⟨fun x hx n => ?_, fun t ht => ft_inv_0 (fun x => ⟨fun q => ?_, fun q => ⟨q.1.1, ?_⟩⟩)⟩⟩) (fun h => And.intro (vp_in_nI h (by decide)) (And.intro (vp_in_nI h (by decide)) (ft_bl (fun g => And.intro (vp_in_nI h (by decide)) (nm_r (e' := upd m c 100) (ft_up h) (nm_r (nI_1 c) (ih (c + 1) _ (by omega) (by omega) ?_ ?_ ?_)))) (fun g => And.intro (vp_in_nI h (by decide)) (nm_r (e' := upd m c (nI c)) (ft_up h) (nm_r (nI_1 c) (ih (c + 1) _ (by omega) (by omega) ?_ ?_ ?_)))))))
    · rw [k0 x (by omega) n, ft_i100]
    · by_cases l : ft_lk ah x
      · have q2 := q.2
        rw [k1 x (by omega) l, nI_toInt (by omega)] at q2
        exact ⟨l, q2⟩
      · have q2 := q.2
        rw [k0 x (by omega) l, ft_i100] at q2
        omega
    · have := q.1.1
      rw [k1 x (by omega) q.1, nI_toInt (by omega)]
      exact q.2
    · intro x hx
      rw [pk_un (by omega)]
      exact k2 x (by omega)
    · intro x hx l
      by_cases e : x = c
      · subst e
        rw [nI_clamp (by omega), k2 x (by omega)] at g
        have := (hl x h).mp l
        omega
      · rw [pk_un e]; exact k1 x (by omega) l
    · intro x hx l
      by_cases e : x = c
      · subst e; exact pk_us
      · rw [pk_un e]; exact k0 x (by omega) l
    · intro x hx
      rw [pk_un (by omega)]
      exact k2 x (by omega)
    · intro x hx l
      by_cases e : x = c
      · subst e; exact pk_us
      · rw [pk_un e]; exact k1 x (by omega) l
    · intro x hx l
      by_cases e : x = c
      · subst e
        rw [nI_clamp (by omega), k2 x (by omega)] at g
        exact absurd ((hl x h).mpr (by omega)) l
      · rw [pk_un e]; exact k0 x (by omega) l
theorem fy_lakeMarks {post : SY → Prop} {ah m : Nat → Int32} (hh : ∀ x, (ah x).toInt ≤ 99) (H : ∀ m : Nat → Int32, fy_LM ah m → post (ah, m)) : wpY_lakeMarks post (ah, m) :=
  fy_levels (fun m0 s => ⟨65, fy_lm6 H (fun x hx => ft_lk_s hh s hx) 65 0 m0 (by omega) (by omega) (fun x _ => rfl) (fun x hx => absurd hx (Nat.not_lt_zero x)) (fun x hx => absurd hx (Nat.not_lt_zero x))⟩)
end
section
/-! the reference's prominence and summits; counts -/
def fy_IP (ah : Nat → Int32) (a k c : Nat) (m : Nat → Int32) : Prop :=
  ∀ t : Int, 0 ≤ t → ft_inv (ft_eP (fun x => t ≤ (ah x).toInt)) (fun x => x = a ∧ t ≤ (ah x).toInt) k c (fun x => x < 64 ∧ t ≤ (m x).toInt)
theorem fy_pr55 {post : Int32 → SY → Prop} {J47 : Int32 → (Nat → Int32) → (Nat → Int32) → Prop} {ah : Nat → Int32} {a k : Nat}
    (HJ : ∀ m, fy_IP ah a k 64 m → J47 (nI (k + 1)) ah m) :
    ∀ (n c : Nat) (m : Nat → Int32), c ≤ 64 → 64 < c + n → fy_IP ah a k c m → wY_prominence_55 post J47 (nI a) (nI k) n (nI c) ah m := by
  intro n
  induction n with
  | zero => intro c m h1 h2; omega
  | succ n ih =>
    intro c m h1 h2 I
    refine pk_le 64 c (fun h => nm_r (nI_1 k) (HJ m ?_)) (fun h => fy_mb h (fun r hr => And.intro (vp_in_nI h (by decide)) (fy_least (fun s hs => And.intro (vp_in_nI h (by decide)) (fy_most (fun w hw => And.intro (vp_in_nI h (by decide)) (nm_r (e' := upd m c w) (ft_up h) (nm_r (nI_1 c) (ih (c + 1) (upd m c w) (by omega) (by omega) ?_)))))))))
    · have e : c = 64 := by omega
      subst e
      exact I
    · rw [nI_clamp (by omega)] at hs hw
      intro t ht
      refine ft_inv_s (I t ht) (fun x => ?_)
      by_cases e : x = c
      · subst e
        rw [pk_us]
        constructor
        · rintro ⟨_, q⟩
          by_cases q1 : t ≤ (m x).toInt
          · exact Or.inl ⟨h, q1⟩
          · have q2 : t ≤ r.toInt ∧ t ≤ (ah x).toInt := by omega
            rcases (hr t).mp q2.1 with z | ⟨y, a, z⟩
            · omega
            · exact Or.inr ⟨rfl, y, ⟨a, q2.2⟩, a.2.1, z⟩
        · rintro (⟨_, q⟩ | ⟨_, y, ⟨a, p⟩, _, z⟩)
          · exact ⟨h, by omega⟩
          · have z1 := (hr t).mpr (Or.inr ⟨y, a, z⟩)
            have p1 : t ≤ (ah x).toInt := p
            exact ⟨h, by omega⟩
      · rw [pk_un e]
        exact ⟨Or.inl, fun q => q.elim id (fun z => absurd z.1 e)⟩
/-- a higher cell can be come to over heights of at least t -/
def ft_hi (ah : Nat → Int32) (a : Nat) (t : Int) : Prop := ∃ x, x < 64 ∧ (ah a).toInt < (ah x).toInt ∧ ft_cn (fun y => t ≤ (ah y).toInt) a x
/-- v is the height of the saddle, or the lowest height where nothing is higher -/
def ft_sd (ah : Nat → Int32) (a : Nat) (v : Int32) : Prop :=
  (ft_hi ah a 0 → ∀ t : Int, 0 ≤ t → (t ≤ v.toInt ↔ ft_hi ah a t)) ∧ (¬ ft_hi ah a 0 → ∀ t : Int, v.toInt ≤ t ↔ 99 ≤ t ∨ ∃ x, x < 64 ∧ (ah x).toInt ≤ t)
theorem ft_sd_u {ah : Nat → Int32} {a : Nat} {v w : Int32} (hv : ft_sd ah a v) (hw : ft_sd ah a w) : v = w := by
  apply Int32.toInt_inj.mp
  by_cases k : ft_hi ah a 0
  · have v0 := (hv.1 k 0 (by omega)).mpr k
    have w0 := (hw.1 k 0 (by omega)).mpr k
    have e1 := (hw.1 k v.toInt v0).mpr ((hv.1 k v.toInt v0).mp (Int.le_refl _))
    have e2 := (hv.1 k w.toInt w0).mpr ((hw.1 k w.toInt w0).mp (Int.le_refl _))
    omega
  · have e1 := (hw.2 k v.toInt).mpr ((hv.2 k v.toInt).mp (Int.le_refl _))
    have e2 := (hv.2 k w.toInt).mpr ((hw.2 k w.toInt).mp (Int.le_refl _))
    omega
theorem fy_pr120 {post : Int32 → SY → Prop} {ah m : Nat → Int32} {a : Nat} (ha : a < 64) (H : ∀ v : Int32, ft_sd ah a v → post (ah a - v) (ah, m))
    (hm : ∀ x, x < 64 → ∀ t : Int, 0 ≤ t → (t ≤ (m x).toInt ↔ ft_cn (fun y => t ≤ (ah y).toInt) a x)) :
    ∀ (n c : Nat) (b l : Int32), c ≤ 64 → 64 < c + n → (∀ t : Int, t ≤ b.toInt ↔ t ≤ -1 ∨ ∃ x, x < c ∧ (ah a).toInt < (ah x).toInt ∧ t ≤ (m x).toInt) → (∀ t : Int, l.toInt ≤ t ↔ 99 ≤ t ∨ ∃ x, x < c ∧ (ah x).toInt ≤ t) → wY_prominence_120 post (nI a) ah m n b l (nI c) := by
  intro n
  induction n with
  | zero => intro c b l h1 h2; omega
  | succ n ih =>
    intro c b l h1 h2 hb hl
    refine pk_le 64 c (fun h => And.intro (vp_in_nI ha (by decide)) (ft_bl (fun g => ?_) (fun g => ?_))) (fun h => And.intro (vp_in_nI h (by decide)) (fy_least (fun s hs => And.intro (vp_in_nI h (by decide)) (And.intro (vp_in_nI ha (by decide)) (ft_bl (fun g => nm_r (nI_1 c) (ih (c + 1) b s (by omega) (by omega) (fun t => ?_) (fun t => ?_))) (fun g => And.intro (vp_in_nI h (by decide)) (fy_most (fun w hw => nm_r (nI_1 c) (ih (c + 1) w s (by omega) (by omega) (fun t => ?_) (fun t => ?_))))))))))
    · have e : c = 64 := by omega
      subst e
      rw [nI_clamp (by omega)]
      rw [ft_i0] at g
      refine H b ⟨fun k t ht => ?_, fun k => ?_⟩
      · rw [hb t]
        constructor
        · rintro (z | ⟨x, hx, z, y⟩)
          · omega
          · exact ⟨x, hx, z, (hm x hx t ht).mp y⟩
        · rintro ⟨x, hx, z, y⟩
          exact Or.inr ⟨x, hx, z, (hm x hx t ht).mpr y⟩
      · rcases (hb 0).mp g with z | ⟨x, hx, z, y⟩
        · omega
        · exact absurd ⟨x, hx, z, (hm x hx 0 (by omega)).mp y⟩ k
    · have e : c = 64 := by omega
      subst e
      rw [nI_clamp (by omega)]
      rw [ft_i0] at g
      refine H l ⟨fun k => ?_, fun k => hl⟩
      obtain ⟨x, hx, z, y⟩ := k
      have := (hb 0).mpr (Or.inr ⟨x, hx, z, (hm x hx 0 (by omega)).mpr y⟩)
      omega
    · rw [nI_clamp (by omega), nI_clamp (by omega)] at g
      rw [hb t]
      refine or_congr Iff.rfl ⟨fun ⟨x, hx, z⟩ => ⟨x, by omega, z⟩, fun ⟨x, hx, z⟩ => ⟨x, ?_, z⟩⟩
      have e : x ≠ c := fun e => by rw [e] at z; omega
      omega
    · rw [nI_clamp (by omega)] at hs
      have z : s.toInt ≤ t ↔ l.toInt ≤ t ∨ (ah c).toInt ≤ t := by omega
      rw [z, hl t, or_assoc]
      refine or_congr Iff.rfl ⟨fun q => ?_, fun ⟨x, hx, q⟩ => ?_⟩
      · rcases q with ⟨x, hx, q⟩ | q
        · exact ⟨x, by omega, q⟩
        · exact ⟨c, by omega, q⟩
      · by_cases e : x = c
        · exact Or.inr (e ▸ q)
        · exact Or.inl ⟨x, by omega, q⟩
    · rw [nI_clamp (by omega), nI_clamp (by omega)] at g
      rw [nI_clamp (by omega)] at hw
      have z : t ≤ w.toInt ↔ t ≤ b.toInt ∨ t ≤ (m c).toInt := by omega
      rw [z, hb t, or_assoc]
      refine or_congr Iff.rfl ⟨fun q => ?_, fun ⟨x, hx, q⟩ => ?_⟩
      · rcases q with ⟨x, hx, q⟩ | q
        · exact ⟨x, by omega, q⟩
        · exact ⟨c, by omega, g, q⟩
      · by_cases e : x = c
        · exact Or.inr (e ▸ q.2)
        · exact Or.inl ⟨x, by omega, q⟩
    · rw [nI_clamp (by omega)] at hs
      have z : s.toInt ≤ t ↔ l.toInt ≤ t ∨ (ah c).toInt ≤ t := by omega
      rw [z, hl t, or_assoc]
      refine or_congr Iff.rfl ⟨fun q => ?_, fun ⟨x, hx, q⟩ => ?_⟩
      · rcases q with ⟨x, hx, q⟩ | q
        · exact ⟨x, by omega, q⟩
        · exact ⟨c, by omega, q⟩
      · by_cases e : x = c
        · exact Or.inr (e ▸ q)
        · exact Or.inl ⟨x, by omega, q⟩
theorem fy_pr47 {post : Int32 → SY → Prop} {ah : Nat → Int32} {a : Nat} (ha : a < 64) (H : ∀ (m : Nat → Int32) (v : Int32), ft_sd ah a v → post (ah a - v) (ah, m)) :
    ∀ (n k : Nat) (m : Nat → Int32), k ≤ 64 → 64 < k + n → fy_IP ah a k 0 m → wY_prominence_47 post (nI a) n (nI k) ah m := by
  intro n
  induction n with
  | zero => intro k m h1 h2; omega
  | succ n ih =>
    intro k m h1 h2 I
    refine pk_le 64 k (fun h => ⟨65, fy_pr120 ha (H m) (fun x hx t ht => ?_) 65 0 (-1) 99 (by omega) (by omega) (fun t => ?_) (fun t => ?_)⟩) (fun h => ⟨65, fy_pr55 (fun m' I' => ih (k + 1) m' (by omega) (by omega) (fun t ht => ft_inv_n ft_eP_lt (fun x s => s.1 ▸ ha) (I' t ht))) 65 0 m (by omega) (by omega) I⟩)
    · have e : k = 64 := by omega
      subst e
      have z := ft_inv_e (S := fun x => x = a ∧ t ≤ (ah x).toInt) ft_eP_lt (fun x s => s.1 ▸ ha) (I t ht) x
      exact ⟨fun q => z.mp ⟨hx, q⟩, fun q => (z.mpr q).2⟩
    · rw [ft_im1]
      exact ⟨Or.inl, fun q => q.elim id (fun ⟨x, hx, _⟩ => absurd hx (Nat.not_lt_zero x))⟩
    · rw [ft_i99]
      exact ⟨Or.inl, fun q => q.elim id (fun ⟨x, hx, _⟩ => absurd hx (Nat.not_lt_zero x))⟩
theorem fy_pr12 {post : Int32 → SY → Prop} {ah : Nat → Int32} {a : Nat} (ha : a < 64) (H : ∀ (m : Nat → Int32) (v : Int32), ft_sd ah a v → post (ah a - v) (ah, m)) :
    ∀ (n c : Nat) (m : Nat → Int32), c ≤ 64 → 64 < c + n → (∀ x, x < c → x = a → m x = ah x) → (∀ x, x < c → ¬ x = a → m x = -1) → wY_prominence_12 post (nI a) n (nI c) ah m := by
  intro n
  induction n with
  | zero => intro c m h1 h2; omega
  | succ n ih =>
    intro c m h1 h2 k1 k0
    refine pk_le 64 c (fun h => ⟨65, fy_pr47 ha H 65 0 m (by omega) (by omega) (fun t ht => ft_inv_0 (fun x => ⟨fun q => ?_, fun q => ⟨q.1 ▸ ha, ?_⟩⟩))⟩) (fun h => pk_eq c a (fun b => (And.intro (vp_in_nI h (by decide)) (And.intro (vp_in_nI h (by decide)) (nm_r (e' := upd m c (ah c)) (by rw [nI_clamp (by omega)]) (nm_r (nI_1 c) (ih (c + 1) _ (by omega) (by omega) ?_ ?_)))))) (fun b => (And.intro (vp_in_nI h (by decide)) (nm_r (e' := upd m c (-1)) (ft_up h) (nm_r (nI_1 c) (ih (c + 1) _ (by omega) (by omega) ?_ ?_))))))
    · by_cases e : x = a
      · have q2 := q.2
        rw [k1 x (by omega) e] at q2
        exact ⟨e, q2⟩
      · have q2 := q.2
        rw [k0 x (by omega) e, ft_im1] at q2
        omega
    · have hx : x < 64 := q.1 ▸ ha
      rw [k1 x (by omega) q.1]
      exact q.2
    · intro x hx bx
      by_cases e : x = c
      · rw [e]; exact pk_us
      · rw [pk_un e]; exact k1 x (by omega) bx
    · intro x hx bx
      by_cases e : x = c
      · exact absurd (e.trans b) bx
      · rw [pk_un e]; exact k0 x (by omega) bx
    · intro x hx bx
      by_cases e : x = c
      · exact absurd (e.symm.trans bx) b
      · rw [pk_un e]; exact k1 x (by omega) bx
    · intro x hx bx
      by_cases e : x = c
      · rw [e]; exact pk_us
      · rw [pk_un e]; exact k0 x (by omega) bx
theorem fy_prominence {post : Int32 → SY → Prop} {ah m : Nat → Int32} {a : Nat} (ha : a < 64) (H : ∀ (m : Nat → Int32) (v : Int32), ft_sd ah a v → post (ah a - v) (ah, m)) : wpY_prominence post (ah, m) (nI a) := by
  unfold wpY_prominence
  dsimp only
  exact fy_bad_ok ha (br_t rfl ⟨65, fy_pr12 ha H 65 0 m (by omega) (by omega) (fun x hx => absurd hx (Nat.not_lt_zero x)) (fun x hx => absurd hx (Nat.not_lt_zero x))⟩)

/-! summits -/
def ft_al (ah : Nat → Int32) (s x : Nat) : Prop := (ah x).toInt = (ah s).toInt
def ft_eA (ah : Nat → Int32) (x y : Nat) : Prop := ft_adj x y ∧ (ah y).toInt = (ah x).toInt
def ft_hh (ah : Nat → Int32) (c : Nat) : Prop := ∃ y, ft_adj c y ∧ (ah c).toInt < (ah y).toInt
theorem ft_eA_lt {ah : Nat → Int32} (x y : Nat) (h : ft_eA ah x y) : x < 64 := h.1.1
theorem ft_cl_al {ah : Nat → Int32} {S : Nat → Prop} {x : Nat} : ft_cl (ft_eA ah) S x ↔ ∃ y, S y ∧ ft_cn (ft_al ah y) y x := by
  constructor
  · intro h
    exact h (fun x => ∃ y, S y ∧ ft_cn (ft_al ah y) y x) (fun x s => ⟨x, s, ft_cn_r rfl⟩) (fun x y ⟨z, s, t⟩ e => ⟨z, s, ft_cn_e t e.1 (e.2.symm.trans (ft_cn_P t))⟩)
  · rintro ⟨y, s, h⟩
    exact (h (fun x => ft_al ah y x ∧ ft_cl (ft_eA ah) S x) (fun z q => by have := q.1; subst this; exact ⟨rfl, ft_cl_s s⟩) (fun _ _ t e => ⟨e.2, ft_cl_e t.2 ⟨e.1, t.1.trans (Eq.symm e.2)⟩⟩)).2
def ft_s0 (ah : Nat → Int32) (t : Int) (x : Nat) : Prop := x < 64 ∧ ((ft_hh ah x ∧ -1 ≤ t) ∨ (¬ ft_hh ah x ∧ (x : Int) ≤ t))
def fy_IS (ah : Nat → Int32) (k c : Nat) (m : Nat → Int32) : Prop :=
  ∀ t : Int, ft_inv (ft_eA ah) (ft_s0 ah t) k c (fun x => x < 64 ∧ (m x).toInt ≤ t)
theorem fy_su43 {post : Int32 → SY → Prop} {J35 : Int32 → (Nat → Int32) → (Nat → Int32) → Prop} {ah : Nat → Int32} {k : Nat}
    (HJ : ∀ m, fy_IS ah k 64 m → J35 (nI (k + 1)) ah m) :
    ∀ (n c : Nat) (m : Nat → Int32), c ≤ 64 → 64 < c + n → fy_IS ah k c m → wY_summits_43 post J35 (nI k) n (nI c) ah m := by
  intro n
  induction n with
  | zero => intro c m h1 h2; omega
  | succ n ih =>
    intro c m h1 h2 I
    refine pk_le 64 c (fun h => nm_r (nI_1 k) (HJ m ?_)) (fun h => fy_la h (fun r hr => And.intro (vp_in_nI h (by decide)) (nm_r (e' := upd m c r) (ft_up h) (nm_r (nI_1 c) (ih (c + 1) (upd m c r) (by omega) (by omega) ?_)))))
    · have e : c = 64 := by omega
      subst e
      exact I
    · intro t
      refine ft_inv_s (I t) (fun x => ?_)
      by_cases e : x = c
      · subst e
        rw [pk_us, hr t]
        constructor
        · rintro ⟨_, q | ⟨y, a, z, w⟩⟩
          · exact Or.inl ⟨h, q⟩
          · exact Or.inr ⟨rfl, y, ⟨a, z⟩, a.2.1, w⟩
        · rintro (⟨_, q⟩ | ⟨_, y, ⟨a, z⟩, _, w⟩)
          · exact ⟨h, Or.inl q⟩
          · exact ⟨h, Or.inr ⟨y, a, z, w⟩⟩
      · rw [pk_un e]
        exact ⟨Or.inl, fun q => q.elim id (fun z => absurd z.1 e)⟩
/-- c is the least cell of a patch that nothing beside it tops -/
def ft_sm (ah : Nat → Int32) (c : Nat) : Prop := (¬ ∃ s, s < c ∧ ft_cn (ft_al ah s) s c) ∧ ¬ ∃ x, ft_cn (ft_al ah c) c x ∧ ft_hh ah x
theorem ft_al_c {ah : Nat → Int32} {s x : Nat} (h : ft_cn (ft_al ah s) s x) : ft_cn (ft_al ah x) x s := by
  have e : (ah x).toInt = (ah s).toInt := ft_cn_P h
  exact ft_cn_m (fun y q => Eq.trans q e.symm) (ft_cn_c h)
theorem fy_su_eq {ah m : Nat → Int32} (hm : ∀ x, x < 64 → ∀ t : Int, ((m x).toInt ≤ t ↔ ∃ y, ft_s0 ah t y ∧ ft_cn (ft_al ah y) y x)) {c : Nat} (hc : c < 64) : (m c).toInt = (c : Int) ↔ ft_sm ah c := by
  have l : (m c).toInt ≤ c := (hm c hc c).mpr ⟨c, ⟨hc, (Classical.em (ft_hh ah c)).elim (fun q => Or.inl ⟨q, by omega⟩) (fun q => Or.inr ⟨q, by omega⟩)⟩, ft_cn_r rfl⟩
  have z := hm c hc ((c : Int) - 1)
  have z1 : (m c).toInt = (c : Int) ↔ ¬ (m c).toInt ≤ (c : Int) - 1 := by omega
  rw [z1, z]
  constructor
  · intro n
    have n2 : ¬ ∃ x, ft_cn (ft_al ah c) c x ∧ ft_hh ah x := by
      rintro ⟨x, q, k⟩
      exact n ⟨x, ⟨ft_cn_lt hc q, Or.inl ⟨k, by omega⟩⟩, ft_al_c q⟩
    refine ⟨?_, n2⟩
    rintro ⟨s, hs, q⟩
    have nh : ¬ ft_hh ah s := fun k => n2 ⟨s, ft_al_c q, k⟩
    exact n ⟨s, ⟨by omega, Or.inr ⟨nh, by omega⟩⟩, q⟩
  · rintro ⟨n1, n2⟩ ⟨y, ⟨hy, q | q⟩, w⟩
    · exact n2 ⟨y, ft_al_c w, q.1⟩
    · exact n1 ⟨y, by omega, w⟩
theorem fy_su76 {post : Int32 → SY → Prop} {ah m : Nat → Int32} (H : post (nI (ft_cnt (fun c => (m c).toInt = (c : Int)) 64)) (ah, m)) :
    ∀ (n c : Nat), c ≤ 64 → 64 < c + n → wY_summits_76 post ah m n (nI (ft_cnt (fun c => (m c).toInt = (c : Int)) c)) (nI c) := by
  intro n
  induction n with
  | zero => intro c h1 h2; omega
  | succ n ih =>
    intro c h1 h2
    refine pk_le 64 c (fun h => ?_) (fun h => And.intro (vp_in_nI h (by decide)) (ft_be (fun g => ?_) (fun g => ?_)))
    · have e : c = 64 := by omega
      subst e
      exact H
    · rw [nI_clamp (by omega), nI_toInt (by omega)] at g
      have i := ih (c + 1) (by omega) (by omega)
      rw [ft_cnt_t (P := fun c => (m c).toInt = (c : Int)) g] at i
      exact nm_r (nI_1 _) (nm_r (nI_1 c) i)
    · rw [nI_clamp (by omega), nI_toInt (by omega)] at g
      have i := ih (c + 1) (by omega) (by omega)
      rw [ft_cnt_f (P := fun c => (m c).toInt = (c : Int)) g] at i
      exact nm_r (nI_1 c) i
theorem fy_su35 {post : Int32 → SY → Prop} {ah : Nat → Int32} (H : ∀ m, post (nI (ft_cnt (ft_sm ah) 64)) (ah, m)) :
    ∀ (n k : Nat) (m : Nat → Int32), k ≤ 64 → 64 < k + n → fy_IS ah k 0 m → wY_summits_35 post n (nI k) ah m := by
  intro n
  induction n with
  | zero => intro k m h1 h2; omega
  | succ n ih =>
    intro k m h1 h2 I
    refine pk_le 64 k (fun h => ⟨65, fy_su76 ?_ 65 0 (by omega) (by omega)⟩) (fun h => ⟨65, fy_su43 (fun m' I' => ih (k + 1) m' (by omega) (by omega) (fun t => ft_inv_n ft_eA_lt (fun x s => s.1) (I' t))) 65 0 m (by omega) (by omega) I⟩)
    have e : k = 64 := by omega
    subst e
    rw [ft_cnt_congr (Q := ft_sm ah) 64 (fun c hc => fy_su_eq (fun x hx t => ?_) hc)]
    · exact H m
    · have z := ft_inv_e ft_eA_lt (fun x s => s.1) (I t) x
      rw [ft_cl_al] at z
      exact ⟨fun q => z.mp ⟨hx, q⟩, fun q => (z.mpr q).2⟩
theorem fy_su2 {post : Int32 → SY → Prop} {ah : Nat → Int32} (H : ∀ m, post (nI (ft_cnt (ft_sm ah) 64)) (ah, m)) :
    ∀ (n c : Nat) (m : Nat → Int32), c ≤ 64 → 64 < c + n → (∀ x, x < c → ft_hh ah x → m x = -1) → (∀ x, x < c → ¬ ft_hh ah x → m x = nI x) → wY_summits_2 post n (nI c) ah m := by
  intro n
  induction n with
  | zero => intro c m h1 h2; omega
  | succ n ih =>
    intro c m h1 h2 k1 k0
    refine pk_le 64 c (fun h => ⟨65, fy_su35 H 65 0 m (by omega) (by omega) (fun t => ft_inv_0 (fun x => ?_))⟩) (fun h => fy_hh h (fun b => br_f (by decide) (And.intro (vp_in_nI h (by decide)) (nm_r (e' := upd m c (-1)) (ft_up h) (nm_r (nI_1 c) (ih (c + 1) _ (by omega) (by omega) ?_ ?_))))) (fun b => br_t rfl (And.intro (vp_in_nI h (by decide)) (nm_r (e' := upd m c (nI c)) (ft_up h) (nm_r (nI_1 c) (ih (c + 1) _ (by omega) (by omega) ?_ ?_))))))
    · unfold ft_s0
      by_cases hx : x < 64
      · by_cases b : ft_hh ah x
        · rw [k1 x (by omega) b, ft_im1]
          exact ⟨fun q => ⟨hx, Or.inl ⟨b, q.2⟩⟩, fun q => ⟨hx, q.2.elim (fun z => z.2) (fun z => absurd b z.1)⟩⟩
        · rw [k0 x (by omega) b, nI_toInt (by omega)]
          exact ⟨fun q => ⟨hx, Or.inr ⟨b, q.2⟩⟩, fun q => ⟨hx, q.2.elim (fun z => absurd z.1 b) (fun z => z.2)⟩⟩
      · exact ⟨fun q => absurd q.1 hx, fun q => absurd q.1 hx⟩
    · intro x hx bx
      by_cases e : x = c
      · subst e; exact pk_us
      · rw [pk_un e]; exact k1 x (by omega) bx
    · intro x hx bx
      by_cases e : x = c
      · subst e; exact absurd b bx
      · rw [pk_un e]; exact k0 x (by omega) bx
    · intro x hx bx
      by_cases e : x = c
      · subst e; exact absurd bx b
      · rw [pk_un e]; exact k1 x (by omega) bx
    · intro x hx bx
      by_cases e : x = c
      · subst e; exact pk_us
      · rw [pk_un e]; exact k0 x (by omega) bx
theorem fy_summits {post : Int32 → SY → Prop} {ah m : Nat → Int32} (H : ∀ m, post (nI (ft_cnt (ft_sm ah) 64)) (ah, m)) : wpY_summits post (ah, m) :=
  ⟨65, fy_su2 H 65 0 m (by omega) (by omega) (fun x hx => absurd hx (Nat.not_lt_zero x)) (fun x hx => absurd hx (Nat.not_lt_zero x))⟩

/-! lakes, lakeSize, reach: the counts -/
def ft_ln (ah : Nat → Int32) (c : Nat) : Prop := ft_lk ah c ∧ ¬ ∃ s, s < c ∧ ft_cn (ft_lk ah) s c
theorem fy_LM_n {ah m : Nat → Int32} (L : fy_LM ah m) {c : Nat} (hc : c < 64) : (m c).toInt = (c : Int) ↔ ft_ln ah c := by
  by_cases k : ft_lk ah c
  · have l : (m c).toInt ≤ c := (L.2 c hc c (by omega)).mpr ⟨c, by omega, ft_cn_r k⟩
    have z := L.2 c hc ((c : Int) - 1) (by omega)
    have z1 : (m c).toInt = (c : Int) ↔ ¬ (m c).toInt ≤ (c : Int) - 1 := by omega
    rw [z1, z]
    constructor
    · intro n
      refine ⟨k, ?_⟩
      rintro ⟨s, hs, q⟩
      exact n ⟨s, by omega, q⟩
    · rintro ⟨_, n⟩ ⟨y, hy, q⟩
      exact n ⟨y, by omega, q⟩
  · have := L.1 c hc k
    exact ⟨fun q => by omega, fun q => absurd q.1 k⟩
theorem fy_LM_e {ah m : Nat → Int32} (L : fy_LM ah m) {a c : Nat} (ha : a < 64) (hc : c < 64) (k : ft_lk ah a) : (m c).toInt = (m a).toInt ↔ ft_cn (ft_lk ah) a c := by
  have la : (m a).toInt ≤ a := (L.2 a ha a (by omega)).mpr ⟨a, by omega, ft_cn_r k⟩
  constructor
  · intro e
    have h1 := (L.2 a ha (m a).toInt (by omega)).mp (Int.le_refl _)
    have h2 := (L.2 c hc (m a).toInt (by omega)).mp (by omega)
    obtain ⟨y, hy, q⟩ := h1
    obtain ⟨z, hz, r⟩ := h2
    have ey : ¬ (y : Int) ≤ (m a).toInt - 1 := fun w => by
      have := (L.2 a ha ((m a).toInt - 1) (by omega)).mpr ⟨y, w, q⟩
      omega
    have ez : ¬ (z : Int) ≤ (m a).toInt - 1 := fun w => by
      have := (L.2 c hc ((m a).toInt - 1) (by omega)).mpr ⟨z, w, r⟩
      omega
    have yz : y = z := by omega
    subst yz
    exact ft_cn_t (ft_cn_c q) r
  · intro q
    have h1 := (L.2 a ha (m a).toInt (by omega)).mp (Int.le_refl _)
    obtain ⟨y, hy, w⟩ := h1
    have l1 := (L.2 c hc (m a).toInt (by omega)).mpr ⟨y, hy, ft_cn_t w q⟩
    have h2 := (L.2 c hc (m c).toInt (by omega)).mp (Int.le_refl _)
    obtain ⟨y', hy', w'⟩ := h2
    have l2 := (L.2 a ha (m c).toInt (by omega)).mpr ⟨y', hy', ft_cn_t w' (ft_cn_c q)⟩
    omega
theorem fy_lk8 {post : Int32 → SY → Prop} {ah m : Nat → Int32} (H : post (nI (ft_cnt (fun c => (m c).toInt = (c : Int)) 64)) (ah, m)) :
    ∀ (n c : Nat), c ≤ 64 → 64 < c + n → wY_lakes_8 post ah m n (nI (ft_cnt (fun c => (m c).toInt = (c : Int)) c)) (nI c) := by
  intro n
  induction n with
  | zero => intro c h1 h2; omega
  | succ n ih =>
    intro c h1 h2
    refine pk_le 64 c (fun h => ?_) (fun h => And.intro (vp_in_nI h (by decide)) (ft_be (fun g => ?_) (fun g => ?_)))
    · have e : c = 64 := by omega
      subst e
      exact H
    · rw [nI_clamp (by omega), nI_toInt (by omega)] at g
      have i := ih (c + 1) (by omega) (by omega)
      rw [ft_cnt_t (P := fun c => (m c).toInt = (c : Int)) g] at i
      exact nm_r (nI_1 _) (nm_r (nI_1 c) i)
    · rw [nI_clamp (by omega), nI_toInt (by omega)] at g
      have i := ih (c + 1) (by omega) (by omega)
      rw [ft_cnt_f (P := fun c => (m c).toInt = (c : Int)) g] at i
      exact nm_r (nI_1 c) i
theorem fy_lakes {post : Int32 → SY → Prop} {ah m : Nat → Int32} (hh : ∀ x, (ah x).toInt ≤ 99) (H : ∀ m, post (nI (ft_cnt (ft_ln ah) 64)) (ah, m)) : wpY_lakes post (ah, m) :=
  fy_lakeMarks hh (fun m' L => ⟨65, fy_lk8 (by rw [ft_cnt_congr (Q := ft_ln ah) 64 (fun c hc => fy_LM_n L hc)]; exact H m') 65 0 (by omega) (by omega)⟩)
theorem fy_ls31 {post : Int32 → SY → Prop} {ah m : Nat → Int32} {a : Nat} (ha : a < 64) (H : post (nI (ft_cnt (fun c => (m c).toInt = (m a).toInt) 64)) (ah, m)) :
    ∀ (n c : Nat), c ≤ 64 → 64 < c + n → wY_lakeSize_31 post (nI a) ah m n (nI (ft_cnt (fun c => (m c).toInt = (m a).toInt) c)) (nI c) := by
  intro n
  induction n with
  | zero => intro c h1 h2; omega
  | succ n ih =>
    intro c h1 h2
    refine pk_le 64 c (fun h => ?_) (fun h => And.intro (vp_in_nI h (by decide)) (And.intro (vp_in_nI ha (by decide)) (ft_be (fun g => ?_) (fun g => ?_))))
    · have e : c = 64 := by omega
      subst e
      exact H
    · rw [nI_clamp (by omega), nI_clamp (by omega)] at g
      have i := ih (c + 1) (by omega) (by omega)
      rw [ft_cnt_t (P := fun c => (m c).toInt = (m a).toInt) g] at i
      exact nm_r (nI_1 _) (nm_r (nI_1 c) i)
    · rw [nI_clamp (by omega), nI_clamp (by omega)] at g
      have i := ih (c + 1) (by omega) (by omega)
      rw [ft_cnt_f (P := fun c => (m c).toInt = (m a).toInt) g] at i
      exact nm_r (nI_1 c) i
theorem fy_lakeSize {post : Int32 → SY → Prop} {ah m : Nat → Int32} {a : Nat} (hh : ∀ x, (ah x).toInt ≤ 99) (ha : a < 64) (H1 : ft_lk ah a → ∀ m, post (nI (ft_cnt (ft_cn (ft_lk ah) a) 64)) (ah, m)) (H0 : ¬ ft_lk ah a → ∀ m, post 0 (ah, m)) : wpY_lakeSize post (ah, m) (nI a) := by
  unfold wpY_lakeSize
  dsimp only
  refine fy_bad_ok ha (br_t rfl (fy_lakeMarks hh (fun m' L => And.intro (vp_in_nI ha (by decide)) (ft_be (fun g => ?_) (fun g => ?_)))))
  · rw [nI_clamp (by omega), ft_i100] at g
    refine H0 (fun k => ?_) m'
    have z : (m' a).toInt ≤ a := (L.2 a ha a (by omega)).mpr ⟨a, by omega, ft_cn_r k⟩
    have g2 : (m' a).toInt = 100 := g
    omega
  · rw [nI_clamp (by omega), ft_i100] at g
    have k : ft_lk ah a := Classical.byContradiction fun n => g (L.1 a ha n)
    refine ⟨65, fy_ls31 ha ?_ 65 0 (by omega) (by omega)⟩
    rw [ft_cnt_congr (Q := ft_cn (ft_lk ah) a) 64 (fun c hc => fy_LM_e L ha hc k)]
    exact H1 k m'
theorem fy_re20 {post : Int32 → SY → Prop} {ah m : Nat → Int32} {w : Int32} (H : post (nI (ft_cnt (fun c => (m c).toInt ≤ w.toInt) 64)) (ah, m)) :
    ∀ (n c : Nat), c ≤ 64 → 64 < c + n → wY_reach_20 post w ah m n (nI (ft_cnt (fun c => (m c).toInt ≤ w.toInt) c)) (nI c) := by
  intro n
  induction n with
  | zero => intro c h1 h2; omega
  | succ n ih =>
    intro c h1 h2
    refine pk_le 64 c (fun h => ?_) (fun h => And.intro (vp_in_nI h (by decide)) (ft_bt (fun g => ?_) (fun g => ?_)))
    · have e : c = 64 := by omega
      subst e
      exact H
    · rw [nI_clamp (by omega)] at g
      have i := ih (c + 1) (by omega) (by omega)
      rw [ft_cnt_f (P := fun c => (m c).toInt ≤ w.toInt) (by omega)] at i
      exact nm_r (nI_1 c) i
    · rw [nI_clamp (by omega)] at g
      have i := ih (c + 1) (by omega) (by omega)
      rw [ft_cnt_t (P := fun c => (m c).toInt ≤ w.toInt) g] at i
      exact nm_r (nI_1 _) (nm_r (nI_1 c) i)
theorem fy_reach {post : Int32 → SY → Prop} {ah m : Nat → Int32} {a : Nat} {w : Int32} (hh : ∀ x, (ah x).toInt ≤ 99) (ha : a < 64) (H : ∀ m, post (nI (ft_cnt (ft_cn (fun x => (ah x).toInt ≤ w.toInt) a) 64)) (ah, m)) : wpY_reach post (ah, m) (nI a) w := by
  unfold wpY_reach
  dsimp only
  refine fy_bad_ok ha (br_t rfl (fy_passes ha (fun m' s => ⟨65, fy_re20 (ah := ah) (m := m') ?_ 65 0 (by omega) (by omega)⟩)))
  rw [ft_cnt_congr (Q := ft_cn (fun x => (ah x).toInt ≤ w.toInt) a) 64 (fun c hc => ?_)]
  · exact H m'
  · by_cases q : w.toInt < 100
    · exact s c hc w.toInt q
    · have h1 : (m' c).toInt ≤ 99 := ft_seal_99 (B := fun x => x = a) (fun x _ => hh x) ha rfl s hc
      exact ⟨fun _ => ft_full (fun x _ => by have := hh x; omega) ha hc, fun _ => by omega⟩
end
section
/-! the component's heap -/
def ft_hp (k : Nat → Int) (n : Nat) : Prop := ∀ j, 0 < j → j < n → k ((j - 1) / 2) ≤ k j
theorem ft_hp_min {k : Nat → Int} {n : Nat} (h : ft_hp k n) : ∀ j, j < n → k 0 ≤ k j := by
  intro j
  induction j using Nat.strongRecOn with
  | ind j ih =>
    intro hj
    by_cases z : j = 0
    · rw [z]; exact Int.le_refl _
    · have h1 := ih ((j - 1) / 2) (by omega) (by omega)
      have h2 := h j (by omega) hj
      omega
def ft_ky (lv hc : Nat → Int32) (j : Nat) : Int := (lv (hc j).toNatClampNeg).toInt
def ft_co (hc : Nat → Int32) (n : Nat) (x : Int32) : Prop := ∃ j, j < n ∧ hc j = x
theorem ft_ky_us {lv hc : Nat → Int32} {i : Nat} {p : Int32} : ft_ky lv (upd hc i p) i = (lv p.toNatClampNeg).toInt := by
  show (lv (upd hc i p i).toNatClampNeg).toInt = _
  rw [pk_us]
theorem ft_ky_un {lv hc : Nat → Int32} {i j : Nat} {p : Int32} (h : j ≠ i) : ft_ky lv (upd hc i p) j = ft_ky lv hc j := by
  show (lv (upd hc i p j).toNatClampNeg).toInt = _
  rw [pk_un h]
  rfl
/-- up: all pairs are in order but (i's parent, i) -/
def ft_hu (k : Nat → Int) (n i : Nat) : Prop :=
  (∀ j, 0 < j → j < n → j ≠ i → k ((j - 1) / 2) ≤ k j) ∧ (∀ j, 0 < j → j < n → (j - 1) / 2 = i → 0 < i → k ((i - 1) / 2) ≤ k j)
theorem ft_hu_s {k k' : Nat → Int} {n i q : Nat} (h : ft_hu k n i) (hi : 0 < i) (hn : i < n) (hq : (i - 1) / 2 = q) (e : k i ≤ k q)
    (s1 : k' q = k i) (s2 : k' i = k q) (s3 : ∀ j, j ≠ i → j ≠ q → k' j = k j) : ft_hu k' n q := by
  refine ⟨fun j h0 hj nq => ?_, fun j h0 hj pj q0 => ?_⟩
  · by_cases ji : j = i
    · rw [ji, hq, s1, s2]
      exact e
    · rw [s3 j ji nq]
      have z := h.1 j h0 hj ji
      by_cases pq : (j - 1) / 2 = q
      · rw [pq] at z ⊢
        omega
      · by_cases pi : (j - 1) / 2 = i
        · rw [pi, s2, ← hq]
          exact h.2 j h0 hj pi hi
        · rw [s3 _ pi pq]
          exact z
  · have z := h.1 q q0 (by omega) (by omega)
    rw [s3 ((q - 1) / 2) (by omega) (by omega)]
    by_cases ji : j = i
    · rw [ji, s2]
      exact z
    · rw [s3 j ji (by omega)]
      have z2 := h.1 j h0 hj ji
      rw [pj] at z2
      omega
theorem ft_hu_e {k : Nat → Int} {n i : Nat} (h : ft_hu k n i) (e : i = 0 ∨ k ((i - 1) / 2) ≤ k i) : ft_hp k n := by
  intro j h0 hj
  by_cases ji : j = i
  · subst ji
    rcases e with e | e
    · omega
    · exact e
  · exact h.1 j h0 hj ji
/-- down: all pairs are in order but (i, i's children) -/
def ft_hd (k : Nat → Int) (n i : Nat) : Prop :=
  (∀ j, 0 < j → j < n → (j - 1) / 2 ≠ i → k ((j - 1) / 2) ≤ k j) ∧ (∀ j, 0 < j → j < n → (j - 1) / 2 = i → 0 < i → k ((i - 1) / 2) ≤ k j)
theorem ft_hd_s {k k' : Nat → Int} {n i c : Nat} (h : ft_hd k n i) (hc : 0 < c) (hn : c < n) (hq : (c - 1) / 2 = i) (e : k c ≤ k i)
    (sb : ∀ j, 0 < j → j < n → (j - 1) / 2 = i → k c ≤ k j)
    (s1 : k' c = k i) (s2 : k' i = k c) (s3 : ∀ j, j ≠ i → j ≠ c → k' j = k j) : ft_hd k' n c := by
  refine ⟨fun j h0 hj nq => ?_, fun j h0 hj pj q0 => ?_⟩
  · by_cases jc : j = c
    · rw [jc, hq, s1, s2]
      exact e
    · by_cases ji : j = i
      · rw [ji, s2, s3 ((i - 1) / 2) (by omega) (by omega)]
        exact h.2 c hc hn hq (by omega)
      · rw [s3 j ji jc]
        by_cases pi : (j - 1) / 2 = i
        · rw [pi, s2]
          exact sb j h0 hj pi
        · rw [s3 _ pi nq]
          exact h.1 j h0 hj pi
  · rw [hq, s2, s3 j (by omega) (by omega)]
    have z := h.1 j h0 hj (by omega)
    rw [pj] at z
    exact z
theorem ft_hd_e {k : Nat → Int} {n i : Nat} (h : ft_hd k n i) (e : ∀ j, 0 < j → j < n → (j - 1) / 2 = i → k i ≤ k j) : ft_hp k n := by
  intro j h0 hj
  by_cases ji : (j - 1) / 2 = i
  · rw [ji]
    exact e j h0 hj ji
  · exact h.1 j h0 hj ji
/-- moving the hole keeps what is held -/
theorem ft_co_sw {hc : Nat → Int32} {n i q : Nat} {p : Int32} (hi : i < n) (hq : q < n) (ne : q ≠ i) (x : Int32) : ft_co (upd (upd hc i (hc q)) q p) n x ↔ ft_co (upd hc i p) n x := by
  constructor
  · rintro ⟨j, hj, e⟩
    by_cases jq : j = q
    · rw [jq, pk_us] at e
      exact ⟨i, hi, by rw [pk_us]; exact e⟩
    · rw [pk_un jq] at e
      by_cases ji : j = i
      · rw [ji, pk_us] at e
        exact ⟨q, hq, by rw [pk_un ne]; exact e⟩
      · rw [pk_un ji] at e
        exact ⟨j, hj, by rw [pk_un ji]; exact e⟩
  · rintro ⟨j, hj, e⟩
    by_cases ji : j = i
    · rw [ji, pk_us] at e
      exact ⟨q, hq, by rw [pk_us]; exact e⟩
    · rw [pk_un ji] at e
      by_cases jq : j = q
      · rw [jq] at e
        exact ⟨i, hi, by rw [pk_un (Ne.symm ne), pk_us]; exact e⟩
      · exact ⟨j, hj, by rw [pk_un jq, pk_un ji]; exact e⟩
theorem ft_ky_sw {lv hc : Nat → Int32} {i q : Nat} {p : Int32} (ne : q ≠ i) :
    ft_ky lv (upd (upd hc i (hc q)) q p) q = ft_ky lv (upd hc i p) i ∧ ft_ky lv (upd (upd hc i (hc q)) q p) i = ft_ky lv (upd hc i p) q ∧ ∀ j, j ≠ i → j ≠ q → ft_ky lv (upd (upd hc i (hc q)) q p) j = ft_ky lv (upd hc i p) j := by
  refine ⟨by rw [ft_ky_us, ft_ky_us], ?_, fun j h1 h2 => by rw [ft_ky_un h2, ft_ky_un h1, ft_ky_un h1]⟩
  rw [ft_ky_un (Ne.symm ne), ft_ky_us, ft_ky_un ne]
  rfl
theorem ft_half {i : Nat} (h : 0 < i) (hi : i < 64) : (nI i - 1) / 2 = nI ((i - 1) / 2) := by
  have e : nI i - 1 = nI (i - 1) := pk_sub (a := i) (b := 1) h
  rw [e]
  exact pk_div (a := i - 1) (d := 2) (by omega) (by omega) (by omega)
theorem ft_two (c : Nat) : (2 : Int32) * nI c + 1 = nI (2 * c + 1) := by
  have e : (2 : Int32) * nI c = nI (2 * c) := pk_mul 2 c
  rw [e, nI_1]
section
variable {f_ready f_heap : Int32} {a_heights a_levels a_heapCell a_met a_order a_leader a_top a_active a_queue : Nat → Int32}
theorem fx_lower {post : Int32 → Prop} {p q : Int32} (hp : vp_in p 64) (hq : vp_in q 64)
    (H1 : (a_levels p.toNatClampNeg).toInt ≤ (a_levels q.toNatClampNeg).toInt → post 1) (H0 : (a_levels q.toNatClampNeg).toInt ≤ (a_levels p.toNatClampNeg).toInt → post 0) :
    wpX_lower post (f_ready, f_heap, a_heights, a_levels, a_heapCell, a_met, a_order, a_leader, a_top, a_active, a_queue) p q :=
  And.intro hp (And.intro hq (ft_bt (fun h => H1 (by omega)) (fun h => And.intro hp (And.intro hq (ft_be (fun e => br_c (fun _ => H0 (by omega)) (fun _ => H1 (by omega))) (fun e => H0 (by omega)))))))
theorem fx_pu15 {post : SX → Prop} {p : Int32} {N : Nat} {C : Int32 → Prop} (hp : vp_in p 64) (hN : N ≤ 64) (hC : ∀ x, C x → vp_in x 64)
    (H : ∀ hc : Nat → Int32, ft_hp (ft_ky a_levels hc) N → (∀ x, ft_co hc N x ↔ C x) → post (f_ready, f_heap, a_heights, a_levels, hc, a_met, a_order, a_leader, a_top, a_active, a_queue)) :
    ∀ (n i : Nat) (hc : Nat → Int32), i < n → i < N → ft_hu (ft_ky a_levels (upd hc i p)) N i → (∀ x, ft_co (upd hc i p) N x ↔ C x) → wX_push_15 post p f_ready f_heap n (nI i) a_heights a_levels hc a_met a_order a_leader a_top a_active a_queue := by
  intro n
  induction n with
  | zero => intro i hc h1; omega
  | succ n ih =>
    intro i hc h1 h2 I hx
    refine pk_le i 0 (fun h => And.intro (vp_in_nI (by omega) (by decide)) (nm_r (e' := upd hc i p) (ft_up (by omega)) (H _ (ft_hu_e I (Or.inl (by omega))) hx))) (fun h => ?_)
    rw [ft_half h (by omega), nI_clamp (n := (i - 1) / 2) (by omega)]
    have hq : (i - 1) / 2 < 64 := by omega
    have ne : (i - 1) / 2 ≠ i := by omega
    have hv : vp_in (hc ((i - 1) / 2)) 64 := hC _ ((hx _).mp ⟨(i - 1) / 2, by omega, pk_un ne⟩)
    refine And.intro (by decide) (And.intro (vp_in_nI hq (by decide)) (fx_lower hp hv (fun g => ?_) (fun g => ?_)))
    · refine br_f (by decide) (And.intro (by decide) (And.intro (vp_in_nI hq (by decide)) (And.intro (vp_in_nI (by omega) (by decide)) (nm_r (e' := upd hc i (hc ((i - 1) / 2))) (ft_up (by omega)) (And.intro (by decide) (nm_e (ih ((i - 1) / 2) _ (by omega) (by omega) ?_ ?_)))))))
      · obtain ⟨s1, s2, s3⟩ := ft_ky_sw (lv := a_levels) (hc := hc) (p := p) ne
        refine ft_hu_s I h h2 rfl ?_ s1 s2 s3
        rw [ft_ky_us, ft_ky_un ne]
        exact g
      · intro x
        rw [ft_co_sw h2 (by omega) ne]
        exact hx x
    · refine br_t rfl (And.intro (vp_in_nI (by omega) (by decide)) (nm_r (e' := upd hc i p) (ft_up (by omega)) (H _ (ft_hu_e I (Or.inr ?_)) hx)))
      rw [ft_ky_us, ft_ky_un ne]
      exact g
theorem fx_push {post : SX → Prop} {p : Int32} {N : Nat} (hp : vp_in p 64) (hN : N < 64) (hh : ft_hp (ft_ky a_levels a_heapCell) N) (hr : ∀ x, ft_co a_heapCell N x → vp_in x 64)
    (H : ∀ hc : Nat → Int32, ft_hp (ft_ky a_levels hc) (N + 1) → (∀ x, ft_co hc (N + 1) x ↔ ft_co a_heapCell N x ∨ x = p) → post (f_ready, (nI (N + 1)), a_heights, a_levels, hc, a_met, a_order, a_leader, a_top, a_active, a_queue)) :
    wpX_push post (f_ready, (nI N), a_heights, a_levels, a_heapCell, a_met, a_order, a_leader, a_top, a_active, a_queue) p := by
  refine nm_r (nI_1 N) ⟨N + 1, fx_pu15 (N := N + 1) (C := fun x => ft_co a_heapCell N x ∨ x = p) hp (by omega) (fun x c => c.elim (hr x) (fun e => e ▸ hp)) H (N + 1) N a_heapCell (by omega) (by omega) ⟨fun j h0 hj ne => ?_, fun j h0 hj pj z => by omega⟩ (fun x => ?_)⟩
  · rw [ft_ky_un ne, ft_ky_un (by omega)]
    exact hh j h0 (by omega)
  · constructor
    · rintro ⟨j, hj, e⟩
      by_cases jn : j = N
      · rw [jn, pk_us] at e
        exact Or.inr e.symm
      · rw [pk_un jn] at e
        exact Or.inl ⟨j, by omega, e⟩
    · rintro (⟨j, hj, e⟩ | e)
      · exact ⟨j, by omega, by rw [pk_un (by omega)]; exact e⟩
      · exact ⟨N, by omega, by rw [pk_us]; exact e.symm⟩
def ft_pi (lv : Nat → Int32) (p : Int32) (M : Nat) (C : Int32 → Prop) (i ch : Nat) (hc : Nat → Int32) : Prop :=
  i < 64 ∧ (i = 0 ∨ i < M) ∧ ft_hd (ft_ky lv (upd hc i p)) M i ∧ (∀ x, ft_co (upd hc i p) M x ↔ C x) ∧
  (ch = 2 * i + 1 ∨ (ch = M ∧ ∀ j, 0 < j → j < M → (j - 1) / 2 = i → ft_ky lv (upd hc i p) i ≤ ft_ky lv (upd hc i p) j))
theorem fx_po78 {post : Int32 → SX → Prop} {J : Int32 → Int32 → (Nat → Int32) → (Nat → Int32) → (Nat → Int32) → (Nat → Int32) → (Nat → Int32) → (Nat → Int32) → (Nat → Int32) → (Nat → Int32) → (Nat → Int32) → Prop}
    {res p : Int32} {M i c : Nat} {C : Int32 → Prop} (hp : vp_in p 64) (hM : M < 64) (hC : ∀ x, C x → vp_in x 64)
    (hi : i < 64) (hI : ft_hd (ft_ky a_levels (upd a_heapCell i p)) M i) (hx : ∀ x, ft_co (upd a_heapCell i p) M x ↔ C x)
    (c0 : 0 < c) (cM : c < M) (pc : (c - 1) / 2 = i) (sb : ∀ j, 0 < j → j < M → (j - 1) / 2 = i → ft_ky a_levels (upd a_heapCell i p) c ≤ ft_ky a_levels (upd a_heapCell i p) j)
    (HJ : ∀ (i' ch' : Nat) (hc' : Nat → Int32), 2 * i + 1 < ch' ∨ ch' = M → ft_pi a_levels p M C i' ch' hc' → J (nI i') (nI ch') a_heights a_levels hc' a_met a_order a_leader a_top a_active a_queue) :
    wX_pop_78 post J res p (nI i) (nI c) f_ready (nI M) a_heights a_levels a_heapCell a_met a_order a_leader a_top a_active a_queue := by
  have ne : c ≠ i := by omega
  have hv : vp_in (a_heapCell c) 64 := hC _ ((hx _).mp ⟨c, cM, pk_un ne⟩)
  unfold wX_pop_78
  rw [nI_clamp (n := c) (by omega)]
  refine And.intro (vp_in_nI (by omega) (by decide)) (fx_lower hv hp (fun g => ?_) (fun g => ?_))
  · refine br_f (by decide) (And.intro (vp_in_nI (by omega) (by decide)) (And.intro (vp_in_nI hi (by decide)) (nm_r (e' := upd a_heapCell i (a_heapCell c)) (ft_up hi) (nm_r (ft_two c) (HJ c (2 * c + 1) _ (Or.inl (by omega)) ⟨by omega, Or.inr cM, ?_, ?_, Or.inl rfl⟩)))))
    · obtain ⟨s1, s2, s3⟩ := ft_ky_sw (lv := a_levels) (hc := a_heapCell) (p := p) ne
      refine ft_hd_s hI c0 cM pc ?_ sb s1 s2 s3
      rw [ft_ky_us, ft_ky_un ne]
      exact g
    · intro x
      rw [ft_co_sw (by omega) cM ne]
      exact hx x
  · refine br_t rfl (HJ i M a_heapCell (Or.inr rfl) ⟨hi, Or.inr (by omega), hI, hx, Or.inr ⟨rfl, fun j h0 hj pj => ?_⟩⟩)
    have z := sb j h0 hj pj
    rw [ft_ky_un ne] at z
    rw [ft_ky_us]
    exact Int.le_trans g z
theorem fx_po32 {post : Int32 → SX → Prop} {res p : Int32} {M : Nat} {C : Int32 → Prop} (hp : vp_in p 64) (hM : M < 64) (hC : ∀ x, C x → vp_in x 64)
    (H : ∀ hc : Nat → Int32, ft_hp (ft_ky a_levels hc) M → (∀ x, ft_co hc M x ↔ C x) → post res (f_ready, (nI M), a_heights, a_levels, hc, a_met, a_order, a_leader, a_top, a_active, a_queue)) :
    ∀ (n i ch : Nat) (hc : Nat → Int32), M < ch + n → 0 < n → ft_pi a_levels p M C i ch hc → wX_pop_32 post res p f_ready (nI M) n (nI i) (nI ch) a_heights a_levels hc a_met a_order a_leader a_top a_active a_queue := by
  intro n
  induction n with
  | zero => intro i ch hc h1 h2; omega
  | succ n ih =>
    intro i ch hc h1 h2 I
    obtain ⟨hi, hi2, hI, hx, hch⟩ := I
    have hcb : ch < 2 ^ 31 := by omega
    refine pk_le M ch (fun h => And.intro (vp_in_nI hi (by decide)) (nm_r (e' := upd hc i p) (ft_up hi) (H _ (ft_hd_e hI (fun j h0 hj pj => ?_)) hx))) (fun h => ?_)
    · rcases hch with e | ⟨e, z⟩
      · omega
      · exact z j h0 hj pj
    · have e : ch = 2 * i + 1 := by
        rcases hch with e | ⟨e, z⟩
        · exact e
        · omega
      have ne1 : ch ≠ i := by omega
      have hv1 : vp_in (hc ch) 64 := hC _ ((hx _).mp ⟨ch, h, pk_un ne1⟩)
      refine pk_le M (ch + 1) (fun g => ?_) (fun g => ?_) (hy := nI_1 ch)
      · refine fx_po78 hp hM hC hi hI hx (by omega) h (by omega) (fun j h0 hj pj => ?_) (fun i' ch' hc' w I' => ih i' ch' hc' (by omega) (by omega) I')
        have : j = ch := by omega
        rw [this]
        exact Int.le_refl _
      · have ne2 : ch + 1 ≠ i := by omega
        have hv2 : vp_in (hc (ch + 1)) 64 := hC _ ((hx _).mp ⟨ch + 1, g, pk_un ne2⟩)
        rw [nI_1, nI_clamp (n := ch) (by omega), nI_clamp (n := ch + 1) (by omega)]
        refine And.intro (vp_in_nI (by omega) (by decide)) (And.intro (vp_in_nI (by omega) (by decide)) (fx_lower hv2 hv1 (fun k => ?_) (fun k => ?_)))
        · refine br_f (by decide) (nm_e (fx_po78 hp hM hC hi hI hx (by omega) g (by omega) (fun j h0 hj pj => ?_) (fun i' ch' hc' w I' => ih i' ch' hc' (by omega) (by omega) I')))
          rw [ft_ky_un ne2]
          by_cases jc : j = ch
          · rw [jc, ft_ky_un ne1]
            exact k
          · have : j = ch + 1 := by omega
            rw [this, ft_ky_un ne2]
            exact Int.le_refl _
        · refine br_t rfl (fx_po78 hp hM hC hi hI hx (by omega) h (by omega) (fun j h0 hj pj => ?_) (fun i' ch' hc' w I' => ih i' ch' hc' (by omega) (by omega) I'))
          rw [ft_ky_un ne1]
          by_cases jc : j = ch
          · rw [jc, ft_ky_un ne1]
            exact Int.le_refl _
          · have : j = ch + 1 := by omega
            rw [this, ft_ky_un ne2]
            exact k
theorem fx_pop {post : Int32 → SX → Prop} {M : Nat} (hM : M < 64) (hh : ft_hp (ft_ky a_levels a_heapCell) (M + 1)) (hr : ∀ x, ft_co a_heapCell (M + 1) x → vp_in x 64)
    (H : ∀ hc : Nat → Int32, ft_hp (ft_ky a_levels hc) M → (∀ x, ft_co hc M x → ft_co a_heapCell (M + 1) x) → (∀ x, ft_co a_heapCell (M + 1) x → x = a_heapCell 0 ∨ ft_co hc M x) → post (a_heapCell 0) (f_ready, (nI M), a_heights, a_levels, hc, a_met, a_order, a_leader, a_top, a_active, a_queue)) :
    wpX_pop post (f_ready, (nI (M + 1)), a_heights, a_levels, a_heapCell, a_met, a_order, a_leader, a_top, a_active, a_queue) := by
  have hp : vp_in (a_heapCell M) 64 := hr _ ⟨M, by omega, rfl⟩
  have s1 : ∀ x, ft_co (upd a_heapCell 0 (a_heapCell M)) M x → ft_co a_heapCell (M + 1) x := by
    rintro x ⟨j, hj, e⟩
    by_cases j0 : j = 0
    · rw [j0, pk_us] at e
      exact ⟨M, by omega, e⟩
    · rw [pk_un j0] at e
      exact ⟨j, by omega, e⟩
  have s2 : ∀ x, ft_co a_heapCell (M + 1) x → x = a_heapCell 0 ∨ ft_co (upd a_heapCell 0 (a_heapCell M)) M x := by
    rintro x ⟨j, hj, e⟩
    by_cases j0 : j = 0
    · rw [j0] at e
      exact Or.inl e.symm
    · by_cases jM : j = M
      · rw [jM] at e
        exact Or.inr ⟨0, by omega, by rw [pk_us]; exact e⟩
      · exact Or.inr ⟨j, by omega, by rw [pk_un j0]; exact e⟩
  refine nm_e (nm_r (nI_pred M) (And.intro (vp_in_nI hM (by decide)) (nm_r (e' := a_heapCell M) (by rw [nI_clamp (by omega)]) ⟨M + 1, fx_po32 (C := fun x => ft_co (upd a_heapCell 0 (a_heapCell M)) M x) hp hM (fun x c => hr x (s1 x c)) (fun hc h1 h2 => H hc h1 (fun x c => s1 x ((h2 x).mp c)) (fun x c => (s2 x c).elim Or.inl (fun z => Or.inr ((h2 x).mpr z)))) (M + 1) 0 1 a_heapCell (by omega) (by omega) ⟨by omega, Or.inl rfl, ⟨fun j h0 hj ne => ?_, fun j h0 hj pj z => absurd z (Nat.lt_irrefl 0)⟩, fun x => Iff.rfl, Or.inl rfl⟩⟩)))
  rw [ft_ky_un ne, ft_ky_un (by omega)]
  exact hh j h0 (by omega)
theorem fx_me32 {post : SX → Prop} {y N : Nat} {w : Int32} (hy : y < 64) (hN : N < 64) (hh : ft_hp (ft_ky a_levels a_heapCell) N) (hr : ∀ x, ft_co a_heapCell N x → vp_in x 64 ∧ x ≠ nI y)
    (H : ∀ hc : Nat → Int32, ft_hp (ft_ky (upd a_levels y w) hc) (N + 1) → (∀ x, ft_co hc (N + 1) x ↔ ft_co a_heapCell N x ∨ x = nI y) → post (f_ready, (nI (N + 1)), a_heights, (upd a_levels y w), hc, a_met, a_order, a_leader, a_top, a_active, a_queue)) :
    wX_meet_32 post (nI y) w (nI y) f_ready (nI N) a_heights a_levels a_heapCell a_met a_order a_leader a_top a_active a_queue := by
  refine And.intro (vp_in_nI hy (by decide)) (nm_r (e' := upd a_levels y w) (ft_up hy) (fx_push (vp_in_nI hy (by decide)) hN (fun j h0 hj => ?_) (fun x c => (hr x c).1) (fun hc h1 h2 => H hc h1 h2)))
  have k : ∀ j, j < N → ft_ky (upd a_levels y w) a_heapCell j = ft_ky a_levels a_heapCell j := by
    intro j hj
    obtain ⟨v, ne⟩ := hr _ ⟨j, hj, rfl⟩
    obtain ⟨x, hx, e⟩ := vp_in_of v (by decide)
    show (upd a_levels y w (a_heapCell j).toNatClampNeg).toInt = _
    rw [pk_un]
    · rfl
    · rw [e, nI_clamp (by omega)]
      intro q
      rw [e, q] at ne
      exact ne rfl
  rw [k j hj, k _ (by omega)]
  exact hh j h0 hj
theorem fx_meet {post : SX → Prop} {y N : Nat} {L : Int32} (hy : y < 64) (hN : N < 64) (hh : ft_hp (ft_ky a_levels a_heapCell) N) (hr : ∀ x, ft_co a_heapCell N x → vp_in x 64 ∧ x ≠ nI y)
    (H : ∀ (w : Int32) (hc : Nat → Int32), w.toInt = max L.toInt (a_heights y).toInt → ft_hp (ft_ky (upd a_levels y w) hc) (N + 1) → (∀ x, ft_co hc (N + 1) x ↔ ft_co a_heapCell N x ∨ x = nI y) → post (f_ready, (nI (N + 1)), a_heights, (upd a_levels y w), hc, (upd a_met y 1), a_order, a_leader, a_top, a_active, a_queue)) :
    wpX_meet post (f_ready, (nI N), a_heights, a_levels, a_heapCell, a_met, a_order, a_leader, a_top, a_active, a_queue) (nI y) L := by
  refine And.intro (vp_in_nI hy (by decide)) (nm_r (e' := upd a_met y 1) (ft_up hy) (And.intro (vp_in_nI hy (by decide)) ?_))
  rw [nI_clamp (n := y) (by omega)]
  exact ft_bl (fun g => And.intro (vp_in_nI hy (by decide)) (fx_me32 hy hN hh hr (fun hc h1 h2 => H _ hc (by omega) h1 h2))) (fun g => fx_me32 hy hN hh hr (fun hc h1 h2 => H _ hc (by omega) h1 h2))
end
end
section
/-! the component's flood -/
def ft_pa (D : Nat → Nat → Nat → Prop) (c d : Nat) (Q : Nat → Prop) : Prop := ∀ e y, e < d → D c e y → y < 64 → Q y
theorem ft_pa_0 {D : Nat → Nat → Nat → Prop} {c : Nat} {Q : Nat → Prop} : ft_pa D c 0 Q := fun e _ h => absurd h (Nat.not_lt_zero e)
theorem ft_pa_n {c d : Nat} {Q : Nat → Prop} (h : ∀ y, y < 64 → ¬ ft_dx c d y) (p : ft_pa ft_dx c d Q) : ft_pa ft_dx c (d + 1) Q := by
  intro e y he hd hy
  by_cases q : e = d
  · exact absurd (q ▸ hd) (h y hy)
  · exact p e y (by omega) hd hy
theorem ft_pa_y {c d y : Nat} {Q : Nat → Prop} (h : ft_dx c d y) (p : ft_pa ft_dx c d Q) (qy : Q y) : ft_pa ft_dx c (d + 1) Q := by
  intro e z he hd hz
  by_cases q : e = d
  · subst q
    have := ft_dx_u h hd
    subst this
    exact qy
  · exact p e z (by omega) hd hz
theorem ft_pa_4 {c : Nat} {Q : Nat → Prop} (p : ft_pa ft_dx c 4 Q) : ∀ y, ft_adj c y → Q y := by
  intro y a
  obtain ⟨d, hd, h⟩ := ft_adj_dx a
  exact p d y hd h a.2.1
theorem ft_pa_m {D : Nat → Nat → Nat → Prop} {c d : Nat} {Q R : Nat → Prop} (h : ∀ y, Q y → R y) (p : ft_pa D c d Q) : ft_pa D c d R := fun e y he hd hy => h y (p e y he hd hy)

def ft_fl (ah lv hc met : Nat → Int32) (W : Int) (X : Nat → Prop) (n : Nat) : Prop :=
  n ≤ ft_cnt (fun x => met x ≠ 0) 64 ∧
  (∀ y, ft_co hc n y → ∃ x, x < 64 ∧ y = nI x ∧ met x ≠ 0 ∧ W ≤ (lv x).toInt) ∧
  ft_hp (ft_ky lv hc) n ∧
  (∀ x, x < 64 → met x ≠ 0 → ∀ t : Int, (lv x).toInt ≤ t → ft_lv (fun y => (ah y).toInt) ft_bd t x) ∧
  (∀ x, x < 64 → met x ≠ 0 → (lv x).toInt ≤ max W (ah x).toInt) ∧
  (∀ x, x < 64 → met x ≠ 0 → X x ∨ ft_co hc n (nI x) ∨ ∀ y, ft_adj x y → met y ≠ 0 ∧ (lv y).toInt ≤ max (lv x).toInt (ah y).toInt)
def ft_bq (ah lv met : Nat → Int32) (c : Nat) : Prop := ∀ b, b < c → ft_bd b → met b ≠ 0 ∧ (lv b).toInt ≤ (ah b).toInt
noncomputable def ft_mu (met : Nat → Int32) (N : Nat) : Nat := 2 * (64 - ft_cnt (fun x => met x ≠ 0) 64) + N
theorem ft_m1 : (1 : Int32) ≠ 0 := by decide
theorem ft_mc {met : Nat → Int32} {y : Nat} (hy : y < 64) (hm : met y = 0) : ft_cnt (fun x => upd met y 1 x ≠ 0) 64 = ft_cnt (fun x => met x ≠ 0) 64 + 1 := by
  refine ft_cnt_add (P := fun x => met x ≠ 0) (Q := fun x => upd met y 1 x ≠ 0) 64 y hy (fun q => q hm) (fun x _ => ?_)
  by_cases e : x = y
  · subst e
    rw [pk_us]
    exact ⟨fun _ => Or.inr rfl, fun _ => ft_m1⟩
  · rw [pk_un e]
    exact ⟨Or.inl, fun q => q.elim id (fun z => absurd z e)⟩
theorem ft_mlt {met : Nat → Int32} {y : Nat} (hy : y < 64) (hm : met y = 0) : ft_cnt (fun x => met x ≠ 0) 64 < 64 :=
  ft_cnt_lt_n (P := fun x => met x ≠ 0) hy (fun q => q hm)
theorem ft_mu_m {met : Nat → Int32} {y N : Nat} (hy : y < 64) (hm : met y = 0) : ft_mu (upd met y 1) (N + 1) < ft_mu met N := by
  unfold ft_mu
  rw [ft_mc hy hm]
  have := ft_mlt hy hm
  omega
theorem ft_fl_m {ah lv hc hc' met : Nat → Int32} {W : Int} {X : Nat → Prop} {N y : Nat} {w : Int32} (I : ft_fl ah lv hc met W X N) (hy : y < 64) (hm : met y = 0)
    (hw : w.toInt = max W (ah y).toInt) (hp : ft_hp (ft_ky (upd lv y w) hc') (N + 1)) (co : ∀ x, ft_co hc' (N + 1) x ↔ ft_co hc N x ∨ x = nI y)
    (sd : ∀ t : Int, w.toInt ≤ t → ft_lv (fun y => (ah y).toInt) ft_bd t y) : ft_fl ah (upd lv y w) hc' (upd met y 1) W X (N + 1) := by
  obtain ⟨i1, i2, i3, i4, i5, i6⟩ := I
  have ne : ∀ x, met x ≠ 0 → x ≠ y := fun x q e => q (e ▸ hm)
  refine ⟨?_, fun z c => ?_, hp, fun x hx m t ht => ?_, fun x hx m => ?_, fun x hx m => ?_⟩
  · rw [ft_mc hy hm]; omega
  · rcases (co z).mp c with c | c
    · obtain ⟨x, hx, e, m, l⟩ := i2 z c
      refine ⟨x, hx, e, ?_, ?_⟩
      · rw [pk_un (ne x m)]; exact m
      · rw [pk_un (ne x m)]; exact l
    · refine ⟨y, hy, c, ?_, ?_⟩
      · rw [pk_us]; exact ft_m1
      · rw [pk_us]; omega
  · by_cases e : x = y
    · subst e
      rw [pk_us] at ht
      exact sd t ht
    · rw [pk_un e] at m ht
      exact i4 x hx m t ht
  · by_cases e : x = y
    · subst e
      rw [pk_us]; omega
    · rw [pk_un e] at m ⊢
      exact i5 x hx m
  · by_cases e : x = y
    · subst e
      exact Or.inr (Or.inl ((co _).mpr (Or.inr rfl)))
    · rw [pk_un e] at m
      rcases i6 x hx m with q | q | q
      · exact Or.inl q
      · exact Or.inr (Or.inl ((co _).mpr (Or.inl q)))
      · refine Or.inr (Or.inr (fun z a => ?_))
        obtain ⟨q1, q2⟩ := q z a
        rw [pk_un (ne z q1), pk_un (ne z q1), pk_un e]
        exact ⟨q1, q2⟩
theorem ft_bq_m {ah lv met : Nat → Int32} {c y : Nat} {w : Int32} (h : ft_bq ah lv met c) (hm : met y = 0) : ft_bq ah (upd lv y w) (upd met y 1) c := by
  intro b hb q
  obtain ⟨h1, h2⟩ := h b hb q
  have e : b ≠ y := fun e => h1 (e ▸ hm)
  rw [pk_un e, pk_un e]
  exact ⟨h1, h2⟩
theorem ft_fl_p {ah lv hc hc' met : Nat → Int32} {W : Int} {M a : Nat} (I : ft_fl ah lv hc met W (fun _ => False) (M + 1)) (ha : a < 64) (e0 : hc 0 = nI a)
    (hp : ft_hp (ft_ky lv hc') M) (c1 : ∀ x, ft_co hc' M x → ft_co hc (M + 1) x) (c2 : ∀ x, ft_co hc (M + 1) x → x = hc 0 ∨ ft_co hc' M x) :
    ft_fl ah lv hc' met (lv a).toInt (fun x => x = a) M ∧ met a ≠ 0 := by
  obtain ⟨i1, i2, i3, i4, i5, i6⟩ := I
  have k0 : ft_ky lv hc 0 = (lv a).toInt := by
    show (lv (hc 0).toNatClampNeg).toInt = _
    rw [e0, nI_clamp (by omega)]
  obtain ⟨x0, hx0, ex, mx, lx⟩ := i2 (hc 0) ⟨0, by omega, rfl⟩
  have ea : x0 = a := (nI_eq (by omega) (by omega)).mp (ex.symm.trans e0)
  subst ea
  refine ⟨⟨by omega, fun z c => ?_, hp, i4, fun x hx m => ?_, fun x hx m => ?_⟩, mx⟩
  · obtain ⟨x, hx, e, m, _⟩ := i2 z (c1 z c)
    refine ⟨x, hx, e, m, ?_⟩
    obtain ⟨j, hj, ej⟩ := c1 z c
    have z1 := ft_hp_min i3 j hj
    have kj : ft_ky lv hc j = (lv x).toInt := by
      show (lv (hc j).toNatClampNeg).toInt = _
      rw [ej, e, nI_clamp (by omega)]
    omega
  · have := i5 x hx m
    omega
  · rcases i6 x hx m with q | q | q
    · exact absurd q id
    · rcases c2 _ q with r | r
      · exact Or.inl ((nI_eq (by omega) (by omega)).mp (r.trans e0))
      · exact Or.inr (Or.inl r)
    · exact Or.inr (Or.inr q)
theorem ft_fl_d {ah lv hc met : Nat → Int32} {W : Int} {N a : Nat} (I : ft_fl ah lv hc met W (fun x => x = a) N)
    (p : ∀ y, ft_adj a y → met y ≠ 0 ∧ (lv y).toInt ≤ max (lv a).toInt (ah y).toInt) : ft_fl ah lv hc met W (fun _ => False) N := by
  obtain ⟨i1, i2, i3, i4, i5, i6⟩ := I
  refine ⟨i1, i2, i3, i4, i5, fun x hx m => ?_⟩
  rcases i6 x hx m with q | q | q
  · subst q
    exact Or.inr (Or.inr p)
  · exact Or.inr (Or.inl q)
  · exact Or.inr (Or.inr q)
theorem ft_fl_e {ah lv hc met : Nat → Int32} {W : Int} (hh : ∀ x, (ah x).toInt ≤ 99) (I : ft_fl ah lv hc met W (fun _ => False) 0) (b : ft_bq ah lv met 64) : ft_seal (fun x => (ah x).toInt) ft_bd (fun x => (lv x).toInt) := by
  obtain ⟨i1, i2, i3, i4, i5, i6⟩ := I
  have cm : ∀ (t : Int) (c : Nat), ft_lv (fun x => (ah x).toInt) ft_bd t c → met c ≠ 0 ∧ (lv c).toInt ≤ t := by
    intro t c h
    refine h (fun x => met x ≠ 0 ∧ (lv x).toInt ≤ t) (fun x s => ?_) (fun x y q e => ?_)
    · have s2 : (ah x).toInt ≤ t := s.2
      obtain ⟨h1, h2⟩ := b x s.1.1 s.1
      exact ⟨h1, by omega⟩
    · have e2 : (ah x).toInt ≤ t := e.2
      rcases i6 y e.1.2.1 q.1 with r | r | r
      · exact absurd r id
      · obtain ⟨j, hj, _⟩ := r
        omega
      · obtain ⟨r1, r2⟩ := r x (ft_adj_c e.1)
        have q2 := q.2
        exact ⟨r1, by omega⟩
  intro c hc t ht
  have m := (cm 99 c (ft_lv_99 (b := 0) (fun x _ => hh x) (by omega) ⟨by omega, by omega⟩ hc)).1
  exact ⟨fun q => i4 c hc m t q, fun q => (cm t c q).2⟩
section
variable {f_ready f_heap : Int32} {a_heights a_levels a_heapCell a_met a_order a_leader a_top a_active a_queue : Nat → Int32}
theorem fx_pr80 {post : SX → Prop} {J : Int32 → Int32 → (Nat → Int32) → (Nat → Int32) → (Nat → Int32) → (Nat → Int32) → (Nat → Int32) → (Nat → Int32) → (Nat → Int32) → (Nat → Int32) → (Nat → Int32) → Prop}
    {a u : Nat} {W : Int} (ha : a < 64)
    (HJ : ∀ (N : Nat) (lv hc met : Nat → Int32), ft_mu met N ≤ u → ft_fl a_heights lv hc met W (fun _ => False) N → ft_bq a_heights lv met 64 → J f_ready (nI N) a_heights lv hc met a_order a_leader a_top a_active a_queue) :
    ∀ (n d N : Nat) (lv hc met : Nat → Int32), d ≤ 4 → 4 < d + n → ft_mu met N ≤ u → ft_fl a_heights lv hc met W (fun x => x = a) N → ft_bq a_heights lv met 64 → met a ≠ 0 → (lv a).toInt = W →
      ft_pa ft_dx a d (fun y => met y ≠ 0 ∧ (lv y).toInt ≤ max (lv a).toInt (a_heights y).toInt) → wX_prepare_80 post J (nI a) n (nI d) f_ready (nI N) a_heights lv hc met a_order a_leader a_top a_active a_queue := by
  intro n
  induction n with
  | zero => intro d N lv hc met h1 h2; omega
  | succ n ih =>
    intro d N lv hc met h1 h2 hu I B ma la P
    refine pk_le 4 d (fun h => HJ N lv hc met hu (ft_fl_d I ?_) B) (fun h => fx_nb ha (by omega) (fun hn => ?_) (fun y hy hd => ?_))
    · have e : d = 4 := by omega
      subst e
      exact ft_pa_4 P
    · exact br_t (by decide) (nm_r (nI_1 d) (ih (d + 1) N lv hc met (by omega) (by omega) hu I B ma la (ft_pa_n hn P)))
    · refine br_f (nI_pos (by omega)) (And.intro (vp_in_nI hy (by decide)) ?_)
      rw [nI_clamp (n := y) (by omega)]
      by_cases m : met y = 0
      · refine br_t m (And.intro (vp_in_nI ha (by decide)) ?_)
        have hN : N < 64 := by have := I.1; have := ft_mlt hy m; omega
        rw [nI_clamp (n := a) (by omega)]
        refine fx_meet hy hN I.2.2.1 (fun x c => ?_) (fun w hc' hw hp co => nm_r (nI_1 d) (ih (d + 1) (N + 1) (upd lv y w) hc' (upd met y 1) (by omega) (by omega) ?_ (ft_fl_m I hy m (by omega) hp co ?_) (ft_bq_m B m) ?_ ?_ ?_))
        · obtain ⟨z, hz, e, mz, _⟩ := I.2.1 x c
          rw [e]
          refine ⟨vp_in_nI hz (by decide), fun q => ?_⟩
          have := (nI_eq (by omega) (by omega)).mp q
          subst this
          exact mz m
        · have := ft_mu_m (N := N) hy m
          omega
        · intro t ht
          have s1 := I.2.2.2.1 a ha ma t (by omega)
          exact ft_cl_e s1 ⟨ft_adj_c (ft_dx_adj ha hy hd), by show (a_heights y).toInt ≤ t; omega⟩
        · have e : a ≠ y := fun e => ma (e ▸ m)
          rw [pk_un e]
          exact ma
        · have e : a ≠ y := fun e => ma (e ▸ m)
          rw [pk_un e]
          exact la
        · have e : a ≠ y := fun e => ma (e ▸ m)
          refine ft_pa_y hd (ft_pa_m (fun z q => ?_) P) ?_
          · have e2 : z ≠ y := fun e => q.1 (e ▸ m)
            rw [pk_un e2, pk_un e2, pk_un e]
            exact q
          · rw [pk_us, pk_us, pk_un e]
            exact ⟨ft_m1, by omega⟩
      · refine br_f m (nm_r (nI_1 d) (ih (d + 1) N lv hc met (by omega) (by omega) hu I B ma la (ft_pa_y hd P ⟨m, ?_⟩)))
        have := I.2.2.2.2.1 y hy m
        omega
theorem fx_pr66 {post : SX → Prop} (hh : ∀ x, (a_heights x).toInt ≤ 99)
    (H : ∀ (fh : Int32) (lv hc met : Nat → Int32), ft_seal (fun x => (a_heights x).toInt) ft_bd (fun x => (lv x).toInt) → post (f_ready, fh, a_heights, lv, hc, met, a_order, a_leader, a_top, a_active, a_queue)) :
    ∀ (n N : Nat) (lv hc met : Nat → Int32) (W : Int), ft_mu met N < n → ft_fl a_heights lv hc met W (fun _ => False) N → ft_bq a_heights lv met 64 → wX_prepare_66 post n f_ready (nI N) a_heights lv hc met a_order a_leader a_top a_active a_queue := by
  intro n
  induction n with
  | zero => intro N lv hc met W h1; omega
  | succ n ih =>
    intro N lv hc met W h1 I B
    have hN : N ≤ 64 := by have := I.1; have := ft_cnt_le (fun x => met x ≠ 0) 64; omega
    refine pk_le N 0 (fun h => H _ lv hc met ?_) (fun h => ?_)
    · have e : N = 0 := by omega
      subst e
      exact ft_fl_e hh I B
    · obtain ⟨M, rfl⟩ : ∃ M, N = M + 1 := ⟨N - 1, by omega⟩
      obtain ⟨a, ha, e0, ma, _⟩ := I.2.1 (hc 0) ⟨0, by omega, rfl⟩
      refine fx_pop (by omega) I.2.2.1 (fun x c => ?_) (fun hc' hp c1 c2 => ?_)
      · obtain ⟨z, hz, e, _⟩ := I.2.1 x c
        rw [e]
        exact vp_in_nI hz (by decide)
      · obtain ⟨I', ma'⟩ := ft_fl_p I ha e0 hp c1 c2
        rw [e0]
        have hmu : ft_mu met M < n := by
          unfold ft_mu at h1 ⊢
          omega
        exact ⟨5, fx_pr80 (u := ft_mu met M) ha (fun N' lv' hc'' met' hu I2 B2 => ih N' lv' hc'' met' _ (by omega) I2 B2) 5 0 M lv hc' met (by omega) (by omega) (Nat.le_refl _) I' B ma' rfl ft_pa_0⟩
theorem fx_pr41 {post : SX → Prop} (hh0 : ∀ x, 0 ≤ (a_heights x).toInt) (hh : ∀ x, (a_heights x).toInt ≤ 99)
    (H : ∀ (fh : Int32) (lv hc met : Nat → Int32), ft_seal (fun x => (a_heights x).toInt) ft_bd (fun x => (lv x).toInt) → post (f_ready, fh, a_heights, lv, hc, met, a_order, a_leader, a_top, a_active, a_queue)) :
    ∀ (n c N : Nat) (lv hc met : Nat → Int32), c ≤ 64 → 64 < c + n → ft_fl a_heights lv hc met 0 (fun _ => False) N → ft_bq a_heights lv met c → (∀ x, c ≤ x → x < 64 → met x = 0) → wX_prepare_41 post n (nI c) f_ready (nI N) a_heights lv hc met a_order a_leader a_top a_active a_queue := by
  intro n
  induction n with
  | zero => intro c N lv hc met h1 h2; omega
  | succ n ih =>
    intro c N lv hc met h1 h2 I B Z
    refine pk_le 64 c (fun h => ⟨ft_mu met N + 1, fx_pr66 hh H (ft_mu met N + 1) N lv hc met 0 (by omega) I ?_⟩) (fun h => fx_border h (fun b => br_f (by decide) ?_) (fun b => br_t rfl (nm_r (nI_1 c) (ih (c + 1) N lv hc met (by omega) (by omega) I ?_ ?_))))
    · have e : c = 64 := by omega
      subst e
      exact B
    · have m := Z c (Nat.le_refl c) h
      have hN : N < 64 := by have := I.1; have := ft_mlt h m; omega
      have h0 := hh0 c
      refine fx_meet h hN I.2.2.1 (fun x k => ?_) (fun w hc' hw hp co => nm_r (nI_1 c) (ih (c + 1) (N + 1) (upd lv c w) hc' (upd met c 1) (by omega) (by omega) (ft_fl_m I h m ?_ hp co ?_) ?_ ?_))
      · obtain ⟨z, hz, e, mz, _⟩ := I.2.1 x k
        rw [e]
        refine ⟨vp_in_nI hz (by decide), fun q => ?_⟩
        have := (nI_eq (by omega) (by omega)).mp q
        subst this
        exact mz m
      · rw [ft_i0] at hw
        exact hw
      · intro t ht
        rw [ft_i0] at hw
        exact ft_cl_s ⟨b, by show (a_heights c).toInt ≤ t; omega⟩
      · intro x hx bx
        by_cases e : x = c
        · subst e
          rw [ft_i0] at hw
          rw [pk_us, pk_us]
          exact ⟨ft_m1, by omega⟩
        · exact ft_bq_m B m x (by omega) bx
      · intro x h1 h2
        rw [pk_un (by omega)]
        exact Z x (by omega) h2
    · intro x hx bx
      by_cases e : x = c
      · subst e
        exact absurd bx b
      · exact B x (by omega) bx
    · intro x h1 h2
      exact Z x (by omega) h2
theorem fx_pr20 {post : SX → Prop} (hh0 : ∀ x, 0 ≤ (a_heights x).toInt) (hh : ∀ x, (a_heights x).toInt ≤ 99)
    (H : ∀ (fh : Int32) (lv hc met : Nat → Int32), ft_seal (fun x => (a_heights x).toInt) ft_bd (fun x => (lv x).toInt) → post (f_ready, fh, a_heights, lv, hc, met, a_order, a_leader, a_top, a_active, a_queue)) :
    ∀ (n c : Nat) (met : Nat → Int32), c ≤ 64 → 64 < c + n → (∀ x, x < c → met x = 0) → wX_prepare_20 post f_ready 0 n (nI c) a_heights a_levels a_heapCell met a_order a_leader a_top a_active a_queue := by
  intro n
  induction n with
  | zero => intro c met h1 h2; omega
  | succ n ih =>
    intro c met h1 h2 Z
    refine pk_le 64 c (fun h => ⟨65, fx_pr41 hh0 hh H 65 0 0 a_levels a_heapCell met (by omega) (by omega) ?_ ?_ ?_⟩) (fun h => And.intro (vp_in_nI h (by decide)) (nm_r (e' := upd met c 0) (ft_up h) (nm_r (nI_1 c) (ih (c + 1) _ (by omega) (by omega) ?_))))
    · refine ⟨Nat.zero_le _, fun y q => ?_, fun j h0 hj => absurd hj (Nat.not_lt_zero j), fun x hx m => absurd (Z x (by omega)) m, fun x hx m => absurd (Z x (by omega)) m, fun x hx m => absurd (Z x (by omega)) m⟩
      obtain ⟨j, hj, _⟩ := q
      exact absurd hj (Nat.not_lt_zero j)
    · intro b hb
      exact absurd hb (Nat.not_lt_zero b)
    · intro x _ hx
      exact Z x (by omega)
    · intro x hx
      by_cases e : x = c
      · subst e
        exact pk_us
      · rw [pk_un e]
        exact Z x (by omega)
theorem fx_prepare {post : SX → Prop} (hh0 : ∀ x, 0 ≤ (a_heights x).toInt) (hh : ∀ x, (a_heights x).toInt ≤ 99)
    (hr : f_ready ≠ 0 → ft_seal (fun x => (a_heights x).toInt) ft_bd (fun x => (a_levels x).toInt))
    (H : ∀ (fr fh : Int32) (lv hc met : Nat → Int32), ft_seal (fun x => (a_heights x).toInt) ft_bd (fun x => (lv x).toInt) → post (fr, fh, a_heights, lv, hc, met, a_order, a_leader, a_top, a_active, a_queue)) :
    wpX_prepare post (f_ready, f_heap, a_heights, a_levels, a_heapCell, a_met, a_order, a_leader, a_top, a_active, a_queue) := by
  by_cases e : f_ready = 0
  · exact br_t e ⟨65, fx_pr20 hh0 hh (fun fh lv hc met s => H 1 fh lv hc met s) 65 0 a_met (by omega) (by omega) (fun x hx => absurd hx (Nat.not_lt_zero x))⟩
  · exact br_f e (H _ _ _ _ _ (hr e))
end
end
section
/-! the component's order of cells, and joined cells -/
/-- all of 0 .. 63, the lowest first -/
def ft_so (ah od : Nat → Int32) : Prop :=
  (∀ j, j < 64 → ∃ x, x < 64 ∧ od j = nI x) ∧ (∀ x, x < 64 → ∃ j, j < 64 ∧ od j = nI x) ∧ (∀ j k, j ≤ k → k < 64 → ft_ky ah od j ≤ ft_ky ah od k)
/-- cells below c stand in order but for the hole i, which cell c is to fill -/
def ft_si (ah v : Nat → Int32) (c i : Nat) : Prop :=
  (∀ j, j < c + 1 → ∃ x, x < c + 1 ∧ v j = nI x) ∧ (∀ x, x < c + 1 → ft_co v (c + 1) (nI x)) ∧
  (∀ j k, j < k → k < c + 1 → j ≠ i → k ≠ i → ft_ky ah v j ≤ ft_ky ah v k) ∧ (∀ k, i < k → k < c + 1 → ft_ky ah v i ≤ ft_ky ah v k)
theorem ft_si_s {ah od : Nat → Int32} {c i : Nat} {p : Int32} (hi : 0 < i) (hc : i < c + 1) (h : ft_si ah (upd od i p) c i) (g : ft_ky ah (upd od i p) i ≤ ft_ky ah (upd od i p) (i - 1)) :
    ft_si ah (upd (upd od i (od (i - 1))) (i - 1) p) c (i - 1) := by
  have ne : i - 1 ≠ i := by omega
  obtain ⟨h1, h2, h3, h4⟩ := h
  obtain ⟨s1, s2, s3⟩ := ft_ky_sw (lv := ah) (hc := od) (p := p) ne
  refine ⟨fun j hj => ?_, fun x hx => (ft_co_sw hc (by omega) ne _).mpr (h2 x hx), fun j k hjk hk nj nk => ?_, fun k hk hkc => ?_⟩
  · by_cases e1 : j = i - 1
    · rw [e1, pk_us]
      have z := h1 i hc
      rw [pk_us] at z
      exact z
    · rw [pk_un e1]
      by_cases e2 : j = i
      · rw [e2, pk_us]
        have z := h1 (i - 1) (by omega)
        rw [pk_un ne] at z
        exact z
      · rw [pk_un e2]
        have z := h1 j hj
        rw [pk_un e2] at z
        exact z
  · by_cases e1 : j = i
    · rw [e1, s2, s3 k (by omega) nk]
      exact h3 (i - 1) k (by omega) hk ne (by omega)
    · by_cases e2 : k = i
      · rw [e2, s2, s3 j e1 nj]
        exact h3 j (i - 1) (by omega) (by omega) e1 ne
      · rw [s3 j e1 nj, s3 k e2 nk]
        exact h3 j k hjk hk e1 e2
  · rw [s1]
    by_cases e1 : k = i
    · rw [e1, s2]
      exact g
    · rw [s3 k e1 (by omega)]
      exact h4 k (by omega) hkc
/-- the first c cells stand in order -/
def ft_sp (ah od : Nat → Int32) (c : Nat) : Prop :=
  (∀ j, j < c → ∃ x, x < c ∧ od j = nI x) ∧ (∀ x, x < c → ft_co od c (nI x)) ∧ (∀ j k, j ≤ k → k < c → ft_ky ah od j ≤ ft_ky ah od k)
theorem ft_si_e {ah v : Nat → Int32} {c i : Nat} (hi : i < c + 1) (h : ft_si ah v c i) (g : i = 0 ∨ ft_ky ah v (i - 1) ≤ ft_ky ah v i) : ft_sp ah v (c + 1) := by
  obtain ⟨h1, h2, h3, h4⟩ := h
  refine ⟨h1, h2, fun j k hjk hk => ?_⟩
  by_cases e : j = k
  · rw [e]; exact Int.le_refl _
  · by_cases e1 : j = i
    · rw [e1]
      exact h4 k (by omega) hk
    · by_cases e2 : k = i
      · rw [e2]
        rcases g with g | g
        · omega
        · by_cases e3 : j = i - 1
          · rw [e3]; exact g
          · have := h3 j (i - 1) (by omega) (by omega) e1 (by omega)
            omega
      · exact h3 j k (by omega) hk e1 e2
theorem ft_si_0 {ah od : Nat → Int32} {c : Nat} (h : ft_sp ah od c) : ft_si ah (upd od c (nI c)) c c := by
  obtain ⟨h1, h2, h3⟩ := h
  refine ⟨fun j hj => ?_, fun x hx => ?_, fun j k hjk hk nj nk => ?_, fun k h1 h2 => by omega⟩
  · by_cases e : j = c
    · rw [e, pk_us]
      exact ⟨c, by omega, rfl⟩
    · obtain ⟨x, hx, q⟩ := h1 j (by omega)
      rw [pk_un e]
      exact ⟨x, by omega, q⟩
  · by_cases e : x = c
    · rw [e]
      exact ⟨c, by omega, pk_us⟩
    · obtain ⟨j, hj, q⟩ := h2 x (by omega)
      exact ⟨j, by omega, by rw [pk_un (by omega)]; exact q⟩
  · rw [ft_ky_un nj, ft_ky_un nk]
    exact h3 j k (by omega) (by omega)
section
variable {f_ready f_heap : Int32} {a_heights a_levels a_heapCell a_met a_order a_leader a_top a_active a_queue : Nat → Int32}
theorem fx_so10 {post : SX → Prop} {J : Int32 → (Nat → Int32) → (Nat → Int32) → (Nat → Int32) → (Nat → Int32) → (Nat → Int32) → (Nat → Int32) → (Nat → Int32) → (Nat → Int32) → (Nat → Int32) → Prop}
    {c : Nat} (hc : c < 64) (HJ : ∀ od : Nat → Int32, ft_sp a_heights od (c + 1) → J (nI (c + 1)) a_heights a_levels a_heapCell a_met od a_leader a_top a_active a_queue) :
    ∀ (n i : Nat) (od : Nat → Int32), i < n → i < c + 1 → ft_si a_heights (upd od i (nI c)) c i → wX_sortCells_10 post J (nI c) f_ready f_heap n (nI i) a_heights a_levels a_heapCell a_met od a_leader a_top a_active a_queue := by
  intro n
  induction n with
  | zero => intro i od h1; omega
  | succ n ih =>
    intro i od h1 h2 I
    refine pk_le i 0 (fun h => And.intro (vp_in_nI (by omega) (by decide)) (nm_r (e' := upd od i (nI c)) (ft_up (by omega)) (nm_r (nI_1 c) (HJ _ (ft_si_e h2 I (Or.inl (by omega))))))) (fun h => ?_)
    have e1 : nI i - 1 = nI (i - 1) := pk_sub (a := i) (b := 1) h
    have ne : i - 1 ≠ i := by omega
    rw [e1, nI_clamp (n := i - 1) (by omega), nI_clamp (n := c) (by omega)]
    obtain ⟨x, hx, ex⟩ := I.1 (i - 1) (by omega)
    rw [pk_un ne] at ex
    have k1 : ft_ky a_heights (upd od i (nI c)) i = (a_heights c).toInt := by
      rw [ft_ky_us, nI_clamp (by omega)]
    have k2 : ft_ky a_heights (upd od i (nI c)) (i - 1) = (a_heights (od (i - 1)).toNatClampNeg).toInt := by
      rw [ft_ky_un ne]
      rfl
    refine And.intro (vp_in_nI (by omega) (by decide)) (And.intro (ex ▸ vp_in_nI (by omega) (by decide)) (And.intro (vp_in_nI hc (by decide)) (ft_bl (fun g => And.intro (vp_in_nI (by omega) (by decide)) (nm_r (e' := upd od i (nI c)) (ft_up (by omega)) (nm_r (nI_1 c) (HJ _ (ft_si_e h2 I (Or.inr ?_)))))) (fun g => And.intro (vp_in_nI (by omega) (by decide)) (And.intro (vp_in_nI (by omega) (by decide)) (nm_r (e' := upd od i (od (i - 1))) (ft_up (by omega)) (nm_r (e' := nI (i - 1)) ?_ (ih (i - 1) _ (by omega) (by omega) (ft_si_s h h2 I ?_)))))))))
    · rw [k1, k2]; exact g
    · obtain ⟨q, rfl⟩ : ∃ q, i = q + 1 := ⟨i - 1, by omega⟩
      exact pk_m1 q
    · rw [k1, k2]; omega
theorem fx_so2 {post : SX → Prop} (H : ∀ od : Nat → Int32, ft_so a_heights od → post (f_ready, f_heap, a_heights, a_levels, a_heapCell, a_met, od, a_leader, a_top, a_active, a_queue)) :
    ∀ (n c : Nat) (od : Nat → Int32), c ≤ 64 → 64 < c + n → ft_sp a_heights od c → wX_sortCells_2 post f_ready f_heap n (nI c) a_heights a_levels a_heapCell a_met od a_leader a_top a_active a_queue := by
  intro n
  induction n with
  | zero => intro c od h1 h2; omega
  | succ n ih =>
    intro c od h1 h2 I
    refine pk_le 64 c (fun h => H od ?_) (fun h => ⟨c + 1, fx_so10 h (fun od' I' => ih (c + 1) od' (by omega) (by omega) I') (c + 1) c od (by omega) (by omega) (ft_si_0 I)⟩)
    have e : c = 64 := by omega
    subst e
    exact I
theorem fx_sort {post : SX → Prop} (H : ∀ od : Nat → Int32, ft_so a_heights od → post (f_ready, f_heap, a_heights, a_levels, a_heapCell, a_met, od, a_leader, a_top, a_active, a_queue)) : wpX_sortCells post (f_ready, f_heap, a_heights, a_levels, a_heapCell, a_met, a_order, a_leader, a_top, a_active, a_queue) :=
  ⟨65, fx_so2 H 65 0 a_order (by omega) (by omega) ⟨fun j hj => absurd hj (Nat.not_lt_zero j), fun j hj => absurd hj (Nat.not_lt_zero j), fun j k _ hk => absurd hk (Nat.not_lt_zero k)⟩⟩
theorem fx_st6 {post : SX → Prop} (H : ∀ ld tp ac : Nat → Int32, (∀ x, x < 64 → ld x = nI x) → (∀ x, x < 64 → tp x = a_heights x) → (∀ x, x < 64 → ac x = 0) → post (f_ready, f_heap, a_heights, a_levels, a_heapCell, a_met, a_order, ld, tp, ac, a_queue)) :
    ∀ (n c : Nat) (ld tp ac : Nat → Int32), c ≤ 64 → 64 < c + n → (∀ x, x < c → ld x = nI x) → (∀ x, x < c → tp x = a_heights x) → (∀ x, x < c → ac x = 0) → wX_startJoining_6 post f_ready f_heap n (nI c) a_heights a_levels a_heapCell a_met a_order ld tp ac a_queue := by
  intro n
  induction n with
  | zero => intro c ld tp ac h1 h2; omega
  | succ n ih =>
    intro c ld tp ac h1 h2 k1 k2 k3
    refine pk_le 64 c (fun h => H ld tp ac (fun x hx => k1 x (by omega)) (fun x hx => k2 x (by omega)) (fun x hx => k3 x (by omega))) (fun h => And.intro (vp_in_nI h (by decide)) (nm_r (e' := upd ld c (nI c)) (ft_up h) (And.intro (vp_in_nI h (by decide)) (And.intro (vp_in_nI h (by decide)) (nm_r (e' := upd tp c (a_heights c)) (by rw [nI_clamp (by omega)]) (And.intro (vp_in_nI h (by decide)) (nm_r (e' := upd ac c 0) (ft_up h) (nm_r (nI_1 c) (ih (c + 1) _ _ _ (by omega) (by omega) ?_ ?_ ?_)))))))))
    · intro x hx
      by_cases e : x = c
      · subst e; exact pk_us
      · rw [pk_un e]; exact k1 x (by omega)
    · intro x hx
      by_cases e : x = c
      · subst e; exact pk_us
      · rw [pk_un e]; exact k2 x (by omega)
    · intro x hx
      by_cases e : x = c
      · subst e; exact pk_us
      · rw [pk_un e]; exact k3 x (by omega)
theorem fx_start {post : SX → Prop} (H : ∀ od ld tp ac : Nat → Int32, ft_so a_heights od → (∀ x, x < 64 → ld x = nI x) → (∀ x, x < 64 → tp x = a_heights x) → (∀ x, x < 64 → ac x = 0) → post (f_ready, f_heap, a_heights, a_levels, a_heapCell, a_met, od, ld, tp, ac, a_queue)) : wpX_startJoining post (f_ready, f_heap, a_heights, a_levels, a_heapCell, a_met, a_order, a_leader, a_top, a_active, a_queue) := by
  unfold wpX_startJoining
  dsimp only
  exact fx_sort (fun od s => ⟨65, fx_st6 (fun ld tp ac h1 h2 h3 => H od ld tp ac s h1 h2 h3) 65 0 a_leader a_top a_active (by omega) (by omega) (fun x hx => absurd hx (Nat.not_lt_zero x)) (fun x hx => absurd hx (Nat.not_lt_zero x)) (fun x hx => absurd hx (Nat.not_lt_zero x))⟩)
end

/-! joined cells: rt the root of each, d a rank -/
def ft_uf (ld : Nat → Int32) (rt d : Nat → Nat) : Prop :=
  ∀ c, c < 64 → rt c < 64 ∧ rt (rt c) = rt c ∧ ∃ l, l < 64 ∧ ld c = nI l ∧ rt l = rt c ∧ (l = c → rt c = c) ∧ (l ≠ c → d l < d c)
theorem ft_uf_h {ld : Nat → Int32} {rt d : Nat → Nat} {c l k : Nat} (h : ft_uf ld rt d) (hc : c < 64) (hl : l < 64) (e1 : ld c = nI l) (e2 : ld l = nI k) (hk : k < 64) (ne : l ≠ c) :
    ft_uf (upd ld c (nI k)) rt d ∧ rt k = rt c ∧ d k < d c := by
  obtain ⟨c1, c2, l', hl', el, cr, c3, c4⟩ := h c hc
  have : l' = l := (nI_eq (by omega) (by omega)).mp (el.symm.trans e1)
  subst this
  obtain ⟨l1, l2, k', hk', ek, lr, l3, l4⟩ := h l' hl
  have : k' = k := (nI_eq (by omega) (by omega)).mp (ek.symm.trans e2)
  subst this
  have d1 := c4 ne
  have dk : d k' < d c := by
    by_cases q : k' = l'
    · rw [q]; exact d1
    · have := l4 q
      omega
  have nk : k' ≠ c := fun q => by rw [q] at dk; omega
  refine ⟨fun x hx => ?_, lr.trans cr, dk⟩
  by_cases e : x = c
  · subst e
    exact ⟨c1, c2, k', hk, pk_us, lr.trans cr, fun q => absurd q nk, fun _ => dk⟩
  · obtain ⟨x1, x2, m, hm, em, r⟩ := h x hx
    exact ⟨x1, x2, m, hm, by rw [pk_un e]; exact em, r⟩
section
variable {f_ready f_heap : Int32} {a_heights a_levels a_heapCell a_met a_order a_leader a_top a_active a_queue : Nat → Int32}
theorem fx_fi2 {post : Int32 → SX → Prop} {rt d : Nat → Nat} {r : Nat} (H : ∀ ld : Nat → Int32, ft_uf ld rt d → post (nI r) (f_ready, f_heap, a_heights, a_levels, a_heapCell, a_met, a_order, ld, a_top, a_active, a_queue)) :
    ∀ (n c : Nat) (ld : Nat → Int32), d c < n → c < 64 → rt c = r → ft_uf ld rt d → wX_find_2 post f_ready f_heap n (nI c) a_heights a_levels a_heapCell a_met a_order ld a_top a_active a_queue := by
  intro n
  induction n with
  | zero => intro c ld h1; omega
  | succ n ih =>
    intro c ld h1 hc hr u
    obtain ⟨c1, c2, l, hl, el, cr, c3, c4⟩ := u c hc
    show vp_in (nI c) 64 ∧ _
    refine And.intro (vp_in_nI hc (by decide)) ?_
    rw [nI_clamp (n := c) (by omega), el, nI_clamp (n := l) (by omega)]
    refine pk_eq l c (fun e => ?_) (fun e => ?_)
    · have z := c3 e
      rw [← hr, z] at H
      exact H ld u
    · obtain ⟨l1, l2, k, hk, ek, lr, l3, l4⟩ := u l hl
      obtain ⟨u', r', d'⟩ := ft_uf_h u hc hl el ek hk e
      refine And.intro (vp_in_nI hc (by decide)) (And.intro (vp_in_nI hl (by decide)) (And.intro (vp_in_nI hc (by decide)) (nm_r (e' := upd ld c (nI k)) (by rw [ek]) (And.intro (vp_in_nI hc (by decide)) (nm_r (e' := nI k) pk_us (ih k _ (by omega) hk (r'.trans hr) u'))))))
theorem fx_find {post : Int32 → SX → Prop} {rt d : Nat → Nat} {c : Nat} (hc : c < 64) (u : ft_uf a_leader rt d) (H : ∀ ld : Nat → Int32, ft_uf ld rt d → post (nI (rt c)) (f_ready, f_heap, a_heights, a_levels, a_heapCell, a_met, a_order, ld, a_top, a_active, a_queue)) : wpX_find post (f_ready, f_heap, a_heights, a_levels, a_heapCell, a_met, a_order, a_leader, a_top, a_active, a_queue) (nI c) :=
  ⟨d c + 1, fx_fi2 H (d c + 1) c a_leader (by omega) hc rfl u⟩
end
end
section
/-! joining two trees; active cells -/
theorem ft_cn_m64 {P Q : Nat → Prop} {a c : Nat} (ha : a < 64) (m : ∀ x, x < 64 → P x → Q x) (h : ft_cn P a c) : ft_cn Q a c :=
  h (ft_cn Q a) (fun x s => by have := s.1; subst this; exact ft_cn_r (m _ ha s.2)) (fun x y t e => ft_cn_e t e.1 (m _ e.1.1 e.2))
def ft_mg (rt : Nat → Nat) (a b x : Nat) : Nat := if rt x = b then a else rt x
theorem ft_mg_t {rt : Nat → Nat} {a b x : Nat} (h : rt x = b) : ft_mg rt a b x = a := if_pos h
theorem ft_mg_f {rt : Nat → Nat} {a b x : Nat} (h : rt x ≠ b) : ft_mg rt a b x = rt x := if_neg h
theorem ft_mg_c {rt : Nat → Nat} {a b x y : Nat} (h : rt x = rt y) : ft_mg rt a b x = ft_mg rt a b y := by
  unfold ft_mg
  rw [h]
theorem ft_mg_a {rt : Nat → Nat} {a b x : Nat} (h : rt x = a) : ft_mg rt a b x = a := by
  by_cases q : rt x = b
  · exact ft_mg_t q
  · rw [ft_mg_f q, h]
theorem ft_uf_j {ld : Nat → Int32} {rt d : Nat → Nat} {a b : Nat} (u : ft_uf ld rt d) (ha : a < 64) (hb : b < 64) (ra : rt a = a) (rb : rt b = b) : ∃ d', ft_uf (upd ld b (nI a)) (ft_mg rt a b) d' := by
  by_cases ab : a = b
  · subst ab
    have e : ∀ x, ft_mg rt a a x = rt x := by
      intro x
      by_cases q : rt x = a
      · rw [ft_mg_t q, q]
      · exact ft_mg_f q
    refine ⟨d, fun c hc => ?_⟩
    rw [e c, e (rt c)]
    obtain ⟨c1, c2, l, hl, el, cr, c3, c4⟩ := u c hc
    by_cases ca : c = a
    · subst ca
      exact ⟨c1, c2, c, hc, pk_us, e c, fun _ => ra, fun q => absurd rfl q⟩
    · exact ⟨c1, c2, l, hl, by rw [pk_un ca]; exact el, by rw [e l]; exact cr, c3, c4⟩
  · have na : rt a ≠ b := fun q => ab (ra.symm.trans q)
    refine ⟨fun x => if rt x = b then d x + d a + 1 else d x, fun c hc => ?_⟩
    obtain ⟨c1, c2, l, hl, el, cr, c3, c4⟩ := u c hc
    have r1 : ft_mg rt a b c < 64 ∧ ft_mg rt a b (ft_mg rt a b c) = ft_mg rt a b c := by
      by_cases q : rt c = b
      · rw [ft_mg_t q]
        exact ⟨ha, ft_mg_a ra⟩
      · rw [ft_mg_f q]
        exact ⟨c1, by rw [ft_mg_f (by rw [c2]; exact q), c2]⟩
    refine ⟨r1.1, r1.2, ?_⟩
    by_cases cb : c = b
    · subst cb
      refine ⟨a, ha, pk_us, by rw [ft_mg_a ra, ft_mg_t rb], fun q => absurd q ab, fun _ => ?_⟩
      dsimp only
      rw [if_neg na, if_pos rb]
      omega
    · refine ⟨l, hl, by rw [pk_un cb]; exact el, ft_mg_c cr, fun q => ?_, fun q => ?_⟩
      · have z := c3 q
        rw [ft_mg_f (by rw [z]; exact cb), z]
      · have z := c4 q
        dsimp only
        rw [cr]
        by_cases w : rt c = b
        · rw [if_pos w, if_pos w]; omega
        · rw [if_neg w, if_neg w]; exact z
def ft_tp (ah tp : Nat → Int32) (rt : Nat → Nat) : Prop :=
  ∀ r, r < 64 → rt r = r → (∀ y, y < 64 → rt y = r → (ah y).toInt ≤ (tp r).toInt) ∧ ∃ y, y < 64 ∧ rt y = r ∧ (ah y).toInt = (tp r).toInt
def ft_sn (rt : Nat → Nat) (A : Nat → Prop) : Prop := ∀ x y, x < 64 → y < 64 → rt x = rt y → x = y ∨ ft_cn A x y
def ft_cm (rt : Nat → Nat) (A : Nat → Prop) : Prop := ∀ x y, A x → A y → ft_adj x y → rt x = rt y
theorem ft_tp_j {ah tp tp' : Nat → Int32} {rt : Nat → Nat} {a b : Nat} (h : ft_tp ah tp rt) (ha : a < 64) (hb : b < 64) (ra : rt a = a) (rb : rt b = b)
    (h1 : (tp' a).toInt = max (tp a).toInt (tp b).toInt) (h2 : ∀ r, r ≠ a → tp' r = tp r) : ft_tp ah tp' (ft_mg rt a b) := by
  intro r hr er
  obtain ⟨a1, ya, hya, ra', ea⟩ := h a ha ra
  obtain ⟨b1, yb, hyb, rb', eb⟩ := h b hb rb
  by_cases e : r = a
  · subst e
    refine ⟨fun y hy q => ?_, ?_⟩
    · by_cases w : rt y = b
      · have := b1 y hy w
        omega
      · rw [ft_mg_f w] at q
        have := a1 y hy q
        omega
    · by_cases w : (tp b).toInt ≤ (tp r).toInt
      · exact ⟨ya, hya, ft_mg_a ra', by omega⟩
      · exact ⟨yb, hyb, ft_mg_t rb', by omega⟩
  · have nb : rt r ≠ b := fun q => e ((ft_mg_t q).symm.trans er).symm
    rw [ft_mg_f nb] at er
    obtain ⟨c1, yc, hyc, rc, ec⟩ := h r hr er
    rw [h2 r e]
    refine ⟨fun y hy q => ?_, yc, hyc, ?_, ec⟩
    · by_cases w : rt y = b
      · rw [ft_mg_t w] at q
        exact absurd q.symm e
      · rw [ft_mg_f w] at q
        exact c1 y hy q
    · rw [ft_mg_f (by rw [rc, ← er]; exact nb)]
      exact rc
theorem ft_sn_j {rt : Nat → Nat} {A : Nat → Prop} {p q : Nat} (h : ft_sn rt A) (hp : p < 64) (hq : q < 64) (c : ft_cn A p q) : ft_sn (ft_mg rt (rt p) (rt q)) A := by
  intro x y hx hy e
  by_cases wx : rt x = rt q
  · by_cases wy : rt y = rt q
    · exact h x y hx hy (wx.trans wy.symm)
    · rw [ft_mg_t wx, ft_mg_f wy] at e
      have cx : ft_cn A x p := (h x q hx hq wx).elim (fun z => z ▸ ft_cn_c c) (fun z => ft_cn_t z (ft_cn_c c))
      exact Or.inr ((h p y hp hy e).elim (fun z => z ▸ cx) (fun z => ft_cn_t cx z))
  · by_cases wy : rt y = rt q
    · rw [ft_mg_t wy, ft_mg_f wx] at e
      have cy : ft_cn A p y := (h q y hq hy wy.symm).elim (fun z => z ▸ c) (fun z => ft_cn_t c z)
      exact Or.inr ((h x p hx hp e).elim (fun z => z ▸ cy) (fun z => ft_cn_t z cy))
    · rw [ft_mg_f wx, ft_mg_f wy] at e
      exact h x y hx hy e
def ft_jn (ah ld tp ac : Nat → Int32) (A : Nat → Prop) : Prop :=
  (∀ x, x < 64 → (ac x ≠ 0 ↔ A x)) ∧ ∃ rt d : Nat → Nat, ft_uf ld rt d ∧ ft_tp ah tp rt ∧ ft_sn rt A ∧ ft_cm rt A
theorem ft_jn_0 {ah ld tp ac : Nat → Int32} (h1 : ∀ x, x < 64 → ld x = nI x) (h2 : ∀ x, x < 64 → tp x = ah x) (h3 : ∀ x, x < 64 → ac x = 0) {A : Nat → Prop} (hA : ∀ x, ¬ A x) : ft_jn ah ld tp ac A := by
  refine ⟨fun x hx => ⟨fun q => absurd (h3 x hx) q, fun q => absurd q (hA x)⟩, fun x => x, fun _ => 0, fun c hc => ⟨hc, rfl, c, hc, h1 c hc, rfl, fun _ => rfl, fun q => absurd rfl q⟩, fun r hr _ => ⟨fun y hy e => ?_, r, hr, rfl, by rw [h2 r hr]⟩, fun x y _ _ e => Or.inl e, fun x y q => absurd q (hA x)⟩
  have e' : y = r := e
  rw [e', h2 r hr]
  exact Int.le_refl _
theorem ft_rt_cn {rt : Nat → Nat} {A : Nat → Prop} (s : ft_sn rt A) (c : ft_cm rt A) {a b : Nat} (ha : a < 64) (hb : b < 64) (A1 : A a) : rt a = rt b ↔ ft_cn A a b := by
  constructor
  · intro e
    rcases s a b ha hb e with q | q
    · rw [← q]
      exact ft_cn_r A1
    · exact q
  · intro h
    exact (h (fun x => A x ∧ rt a = rt x) (fun x q => by have := q.1; subst this; exact ⟨q.2, rfl⟩) (fun x y t e => ⟨e.2, t.2.trans (c y x t.1 e.2 (ft_adj_c e.1))⟩)).2
section
variable {f_ready f_heap : Int32} {a_heights a_levels a_heapCell a_met a_order a_leader a_top a_active a_queue : Nat → Int32}
theorem fx_ac9 {post : SX → Prop} {A A' : Nat → Prop} {c : Nat} (hc : c < 64) (hA : ∀ x, A' x ↔ A x ∨ x = c) (hac : ∀ x, x < 64 → (a_active x ≠ 0 ↔ A' x))
    (H : ∀ ld tp : Nat → Int32, ft_jn a_heights ld tp a_active A' → post (f_ready, f_heap, a_heights, a_levels, a_heapCell, a_met, a_order, ld, tp, a_active, a_queue)) :
    ∀ (n d : Nat) (ld tp : Nat → Int32) (rt rk : Nat → Nat), d ≤ 4 → 4 < d + n → ft_uf ld rt rk → ft_tp a_heights tp rt → ft_sn rt A' → ft_cm rt A → ft_pa ft_dx c d (fun y => A' y → rt c = rt y) →
      wX_activate_9 post (nI c) n (nI d) f_ready f_heap a_heights a_levels a_heapCell a_met a_order ld tp a_active a_queue := by
  intro n
  induction n with
  | zero => intro d ld tp rt rk h1 h2; omega
  | succ n ih =>
    intro d ld tp rt rk h1 h2 u t s m P
    refine pk_le 4 d (fun h => H ld tp ⟨hac, rt, rk, u, t, s, fun x y qx qy a => ?_⟩) (fun h => fx_nb hc (by omega) (fun hn => ?_) (fun y hy hd => ?_))
    · have e : d = 4 := by omega
      subst e
      have P4 := ft_pa_4 P
      rcases (hA x).mp qx with ax | ex
      · rcases (hA y).mp qy with ay | ey
        · exact m x y ax ay a
        · subst ey
          exact (P4 x (ft_adj_c a) qx).symm
      · subst ex
        exact P4 y a qy
    · exact br_t (by decide) (nm_r (nI_1 d) (ih (d + 1) ld tp rt rk (by omega) (by omega) u t s m (ft_pa_n hn P)))
    · refine br_f (nI_pos (by omega)) (And.intro (vp_in_nI hy (by decide)) ?_)
      rw [nI_clamp (n := y) (by omega)]
      by_cases z : a_active y = 0
      · exact br_t z (nm_r (nI_1 d) (ih (d + 1) ld tp rt rk (by omega) (by omega) u t s m (ft_pa_y hd P (fun q => absurd z ((hac y hy).mpr q)))))
      · refine br_f z (fx_find hc u (fun ld1 u1 => fx_find hy u1 (fun ld2 u2 => ?_)))
        obtain ⟨c1, c2, _⟩ := u2 c hc
        obtain ⟨y1, y2, _⟩ := u2 y hy
        obtain ⟨rk', u'⟩ := ft_uf_j u2 c1 y1 c2 y2
        have ac : A' c := (hA c).mpr (Or.inr rfl)
        have ay : A' y := (hac y hy).mp z
        have cn : ft_cn A' c y := ft_cn_e (ft_cn_r ac) (ft_adj_c (ft_dx_adj hc hy hd)) ay
        have s' := ft_sn_j s hc hy cn
        have m' : ft_cm (ft_mg rt (rt c) (rt y)) A := fun x z qx qz a => ft_mg_c (m x z qx qz a)
        have P' : ft_pa ft_dx c (d + 1) (fun z => A' z → ft_mg rt (rt c) (rt y) c = ft_mg rt (rt c) (rt y) z) :=
          ft_pa_y hd (ft_pa_m (fun z q az => ft_mg_c (q az)) P) (fun _ => by rw [ft_mg_a rfl, ft_mg_t rfl])
        refine And.intro (vp_in_nI y1 (by decide)) (nm_r (e' := upd ld2 (rt y) (nI (rt c))) (ft_up y1) (And.intro (vp_in_nI y1 (by decide)) (And.intro (vp_in_nI c1 (by decide)) (ft_bl (fun g => nm_r (nI_1 d) (ih (d + 1) _ tp _ rk' (by omega) (by omega) u' (ft_tp_j t c1 y1 c2 y2 ?_ (fun _ _ => rfl)) s' m' P')) (fun g => And.intro (vp_in_nI y1 (by decide)) (And.intro (vp_in_nI c1 (by decide)) (nm_r (e' := upd tp (rt c) (tp (rt y))) ?_ (nm_r (nI_1 d) (ih (d + 1) _ _ _ rk' (by omega) (by omega) u' (ft_tp_j t c1 y1 c2 y2 ?_ (fun r q => pk_un q)) s' m' P')))))))))
        · rw [nI_clamp (by omega), nI_clamp (by omega)] at g
          omega
        · rw [nI_clamp (by omega), nI_clamp (by omega)]
        · rw [nI_clamp (by omega), nI_clamp (by omega)] at g
          rw [pk_us]
          omega
theorem fx_act {post : SX → Prop} {A A' : Nat → Prop} {c : Nat} (hc : c < 64) (hA : ∀ x, A' x ↔ A x ∨ x = c) (J : ft_jn a_heights a_leader a_top a_active A)
    (H : ∀ ld tp ac : Nat → Int32, ft_jn a_heights ld tp ac A' → post (f_ready, f_heap, a_heights, a_levels, a_heapCell, a_met, a_order, ld, tp, ac, a_queue)) : wpX_activate post (f_ready, f_heap, a_heights, a_levels, a_heapCell, a_met, a_order, a_leader, a_top, a_active, a_queue) (nI c) := by
  obtain ⟨ja, rt, rk, u, t, s, m⟩ := J
  refine And.intro (vp_in_nI hc (by decide)) (nm_r (e' := upd a_active c 1) (ft_up hc) ⟨5, fx_ac9 hc hA (fun x hx => ?_) (fun ld tp j => H ld tp _ j) 5 0 a_leader a_top rt rk (by omega) (by omega) u t (fun x y hx hy e => ?_) m ft_pa_0⟩)
  · rw [hA x]
    by_cases e : x = c
    · rw [e, pk_us]
      exact ⟨fun _ => Or.inr rfl, fun _ => ft_m1⟩
    · rw [pk_un e, ja x hx]
      exact ⟨Or.inl, fun q => q.elim id (fun z => absurd z e)⟩
  · exact (s x y hx hy e).elim Or.inl (fun q => Or.inr (ft_cn_m (fun z w => (hA z).mpr (Or.inl w)) q))
end
end
section
/-! the component's pass, reach, prominence -/
/-- the cells that stand ahead of i in the order -/
def ft_lo (od : Nat → Int32) (i x : Nat) : Prop := ∃ j, j < i ∧ od j = nI x
theorem ft_lo_s {od : Nat → Int32} {i x : Nat} (hi : i < 64) (hx : x < 64) (e : od i = nI x) (so : ∀ j, j < 64 → ∃ x, x < 64 ∧ od j = nI x) (y : Nat) (hy : y < 64) : ft_lo od (i + 1) y ↔ ft_lo od i y ∨ y = x := by
  constructor
  · rintro ⟨j, hj, q⟩
    by_cases ji : j = i
    · subst ji
      exact Or.inr ((nI_eq (by omega) (by omega)).mp (q.symm.trans e))
    · exact Or.inl ⟨j, by omega, q⟩
  · rintro (⟨j, hj, q⟩ | q)
    · exact ⟨j, by omega, q⟩
    · exact ⟨i, by omega, by rw [q]; exact e⟩
theorem ft_ky_at {ah od : Nat → Int32} {j x : Nat} (hx : x < 64) (e : od j = nI x) : ft_ky ah od j = (ah x).toInt := by
  show (ah (od j).toNatClampNeg).toInt = _
  rw [e, nI_clamp (by omega)]
/-- as a set of cells below 64 -/
def ft_A (od : Nat → Int32) (i x : Nat) : Prop := x < 64 ∧ ft_lo od i x
theorem ft_A_s {ah od : Nat → Int32} {i x : Nat} (so : ft_so ah od) (hi : i < 64) (hx : x < 64) (e : od i = nI x) (y : Nat) : ft_A od (i + 1) y ↔ ft_A od i y ∨ y = x := by
  constructor
  · rintro ⟨hy, q⟩
    exact ((ft_lo_s hi hx e so.1 y hy).mp q).elim (fun z => Or.inl ⟨hy, z⟩) Or.inr
  · rintro (⟨hy, q⟩ | q)
    · exact ⟨hy, (ft_lo_s hi hx e so.1 y hy).mpr (Or.inl q)⟩
    · have hy : y < 64 := by omega
      exact ⟨hy, (ft_lo_s hi hx e so.1 y hy).mpr (Or.inr q)⟩
theorem ft_A_0 {od : Nat → Int32} (x : Nat) : ¬ ft_A od 0 x := fun ⟨_, j, hj, _⟩ => absurd hj (Nat.not_lt_zero j)
theorem ft_A_64 {ah od : Nat → Int32} (so : ft_so ah od) (x : Nat) (hx : x < 64) : ft_A od 64 x := ⟨hx, so.2.1 x hx⟩
theorem ft_A_le {ah od : Nat → Int32} {i x : Nat} (so : ft_so ah od) (hi : i < 64) (hx : x < 64) (e : od i = nI x) {y : Nat} (h : ft_A od (i + 1) y) : (ah y).toInt ≤ (ah x).toInt := by
  obtain ⟨hy, j, hj, q⟩ := h
  have z := so.2.2 j i (by omega) hi
  rw [ft_ky_at hy q, ft_ky_at hx e] at z
  exact z
theorem ft_A_lt {ah od : Nat → Int32} {i x : Nat} (so : ft_so ah od) (hx : x < 64) (e : od i = nI x) {y : Nat} (hy : y < 64) (h : (ah y).toInt < (ah x).toInt) : ft_A od i y := by
  obtain ⟨j, hj, q⟩ := so.2.1 y hy
  refine ⟨hy, j, ?_, q⟩
  refine Nat.not_le.mp fun w => ?_
  have z := so.2.2 i j w hj
  rw [ft_ky_at hy q, ft_ky_at hx e] at z
  omega
/-- the cells that stand at k or behind it -/
def ft_B (od : Nat → Int32) (k x : Nat) : Prop := x < 64 ∧ ∃ j, k ≤ j ∧ j < 64 ∧ od j = nI x
theorem ft_B_s {od : Nat → Int32} {k x : Nat} (hk : k < 64) (hx : x < 64) (e : od k = nI x) (y : Nat) : ft_B od k y ↔ ft_B od (k + 1) y ∨ y = x := by
  constructor
  · rintro ⟨hy, j, hj, hj2, q⟩
    by_cases ji : j = k
    · subst ji
      exact Or.inr ((nI_eq (by omega) (by omega)).mp (q.symm.trans e))
    · exact Or.inl ⟨hy, j, by omega, hj2, q⟩
  · rintro (⟨hy, j, hj, hj2, q⟩ | q)
    · exact ⟨hy, j, by omega, hj2, q⟩
    · exact ⟨by omega, k, by omega, hk, by rw [q]; exact e⟩
theorem ft_B_64 {od : Nat → Int32} (x : Nat) : ¬ ft_B od 64 x := fun ⟨_, j, h1, h2, _⟩ => by omega
theorem ft_B_0 {ah od : Nat → Int32} (so : ft_so ah od) (x : Nat) (hx : x < 64) : ft_B od 0 x := by
  obtain ⟨j, hj, q⟩ := so.2.1 x hx
  exact ⟨hx, j, Nat.zero_le j, hj, q⟩
theorem ft_B_ge {ah od : Nat → Int32} {k x : Nat} (so : ft_so ah od) (hx : x < 64) (e : od k = nI x) {y : Nat} (h : ft_B od k y) : (ah x).toInt ≤ (ah y).toInt := by
  obtain ⟨hy, j, hj, hj2, q⟩ := h
  have z := so.2.2 k j hj hj2
  rw [ft_ky_at hy q, ft_ky_at hx e] at z
  exact z
theorem ft_B_gt {ah od : Nat → Int32} {k x : Nat} (so : ft_so ah od) (hk : k < 64) (hx : x < 64) (e : od k = nI x) {y : Nat} (hy : y < 64) (h : (ah x).toInt < (ah y).toInt) : ft_B od (k + 1) y := by
  obtain ⟨j, hj, q⟩ := so.2.1 y hy
  refine ⟨hy, j, ?_, hj, q⟩
  refine Nat.not_lt.mp fun w => ?_
  have z := so.2.2 j k (by omega) hk
  rw [ft_ky_at hy q, ft_ky_at hx e] at z
  omega
theorem ft_pass_v {ah od : Nat → Int32} {i x a b : Nat} (so : ft_so ah od) (ha : a < 64) (hi : i < 64) (hx : x < 64) (e : od i = nI x) (h1 : ft_cn (ft_A od (i + 1)) a b) (h0 : ¬ ft_cn (ft_A od i) a b) (t : Int) :
    (ah x).toInt ≤ t ↔ ft_cn (fun y => (ah y).toInt ≤ t) a b := by
  constructor
  · intro q
    exact ft_cn_m (fun y r => by have := ft_A_le so hi hx e r; omega) h1
  · intro q
    refine Int.not_lt.mp fun w => h0 (ft_cn_m64 ha (fun y hy r => ft_A_lt so hx e hy (by omega)) q)
section
variable {f_ready f_heap : Int32} {a_heights a_levels a_heapCell a_met a_order a_leader a_top a_active a_queue : Nat → Int32}
theorem fx_pa22 {post : Int32 → SX → Prop} {a b : Nat} (ha : a < 64) (hb : b < 64) (so : ft_so a_heights a_order)
    (H : ∀ (r : Int32) (ld tp ac : Nat → Int32), (∀ t : Int, r.toInt ≤ t ↔ ft_cn (fun y => (a_heights y).toInt ≤ t) a b) → post r (f_ready, f_heap, a_heights, a_levels, a_heapCell, a_met, a_order, ld, tp, ac, a_queue)) :
    ∀ (n i : Nat) (ld tp ac : Nat → Int32), i ≤ 64 → 64 < i + n → ft_jn a_heights ld tp ac (ft_A a_order i) → ¬ ft_cn (ft_A a_order i) a b →
      wX_pass_22 post (nI a) (nI b) n (nI i) f_ready f_heap a_heights a_levels a_heapCell a_met a_order ld tp ac a_queue := by
  intro n
  induction n with
  | zero => intro i ld tp ac h1 h2; omega
  | succ n ih =>
    intro i ld tp ac h1 h2 J nc
    refine pk_le 64 i (fun h => ?_) (fun h => And.intro (vp_in_nI h (by decide)) ?_)
    · have e : i = 64 := by omega
      subst e
      exact absurd (ft_full (ft_A_64 so) ha hb) nc
    · rw [nI_clamp (n := i) (by omega)]
      obtain ⟨x, hx, e⟩ := so.1 i h
      rw [e]
      refine fx_act hx (ft_A_s so h hx e) J (fun ld1 tp1 ac1 J1 => And.intro (vp_in_nI ha (by decide)) ?_)
      obtain ⟨ja, rt, rk, u, t, s, m⟩ := J1
      rw [nI_clamp (n := a) (by omega)]
      by_cases za : ac1 a = 0
      · have nA : ¬ ft_A a_order (i + 1) a := fun q => (ja a ha).mpr q za
        exact br_t za (nm_r (nI_1 i) (ih (i + 1) ld1 tp1 ac1 (by omega) (by omega) ⟨ja, rt, rk, u, t, s, m⟩ (fun q => nA (ft_cn_Pa q))))
      · refine br_f za (And.intro (vp_in_nI hb (by decide)) ?_)
        rw [nI_clamp (n := b) (by omega)]
        by_cases zb : ac1 b = 0
        · have nA : ¬ ft_A a_order (i + 1) b := fun q => (ja b hb).mpr q zb
          exact br_t zb (nm_r (nI_1 i) (ih (i + 1) ld1 tp1 ac1 (by omega) (by omega) ⟨ja, rt, rk, u, t, s, m⟩ (fun q => nA (ft_cn_P q))))
        · refine br_f zb (fx_find ha u (fun ld2 u2 => fx_find hb u2 (fun ld3 u3 => ?_)))
          have k := ft_rt_cn s m ha hb ((ja a ha).mp za)
          obtain ⟨ra, _⟩ := u3 a ha
          obtain ⟨rb, _⟩ := u3 b hb
          refine pk_eq (rt a) (rt b) (fun g => And.intro (vp_in_nI h (by decide)) ?_) (fun g => nm_r (nI_1 i) (ih (i + 1) ld3 tp1 ac1 (by omega) (by omega) ⟨ja, rt, rk, u3, t, s, m⟩ (fun q => g (k.mpr q))))
          rw [e, nI_clamp (n := x) (by omega)]
          exact And.intro (vp_in_nI hx (by decide)) (H _ ld3 tp1 ac1 (ft_pass_v so ha h hx e (k.mp g) nc))
theorem fx_pass {post : Int32 → SX → Prop} {a b : Nat} (ha : a < 64) (hb : b < 64)
    (H : ∀ (r : Int32) (od ld tp ac : Nat → Int32), (∀ t : Int, r.toInt ≤ t ↔ ft_cn (fun y => (a_heights y).toInt ≤ t) a b) → post r (f_ready, f_heap, a_heights, a_levels, a_heapCell, a_met, od, ld, tp, ac, a_queue)) :
    wpX_pass post (f_ready, f_heap, a_heights, a_levels, a_heapCell, a_met, a_order, a_leader, a_top, a_active, a_queue) (nI a) (nI b) := by
  unfold wpX_pass
  dsimp only
  refine fx_bad_ok ha (br_t rfl (fx_bad_ok hb (br_t rfl (fx_start (fun od ld tp ac so h1 h2 h3 => ⟨65, fx_pa22 ha hb so (fun r ld tp ac q => H r od ld tp ac q) 65 0 ld tp ac (by omega) (by omega) (ft_jn_0 h1 h2 h3 ft_A_0) (fun q => ft_A_0 _ (ft_cn_P q))⟩)))))
theorem fx_re76 {post : Int32 → SX → Prop} {A : Nat → Prop} {a : Nat} {rt rk : Nat → Nat} (ha : a < 64) (hac : ∀ x, x < 64 → (a_active x ≠ 0 ↔ A x))
    (H : ∀ ld : Nat → Int32, post (nI (ft_cnt (fun c => A c ∧ rt c = rt a) 64)) (f_ready, f_heap, a_heights, a_levels, a_heapCell, a_met, a_order, ld, a_top, a_active, a_queue)) :
    ∀ (n c : Nat) (ld : Nat → Int32), c ≤ 64 → 64 < c + n → ft_uf ld rt rk → wX_reach_76 post (nI (rt a)) n (nI (ft_cnt (fun c => A c ∧ rt c = rt a) c)) (nI c) f_ready f_heap a_heights a_levels a_heapCell a_met a_order ld a_top a_active a_queue := by
  intro n
  induction n with
  | zero => intro c ld h1 h2; omega
  | succ n ih =>
    intro c ld h1 h2 u
    refine pk_le 64 c (fun h => ?_) (fun h => fx_find h u (fun ld1 u1 => And.intro (vp_in_nI h (by decide)) ?_))
    · have e : c = 64 := by omega
      subst e
      exact H ld
    · rw [nI_clamp (n := c) (by omega)]
      obtain ⟨ra, _⟩ := u1 a ha
      obtain ⟨rc, _⟩ := u1 c h
      have i := ih (c + 1) ld1 (by omega) (by omega) u1
      by_cases z : a_active c = 0
      · rw [ft_cnt_f (P := fun c => A c ∧ rt c = rt a) (fun q => (hac c h).mpr q.1 z)] at i
        exact br_t z (nm_r (nI_1 c) i)
      · refine br_f z (pk_eq (rt c) (rt a) (fun g => ?_) (fun g => ?_))
        · rw [ft_cnt_t (P := fun c => A c ∧ rt c = rt a) ⟨(hac c h).mp z, g⟩] at i
          exact nm_r (nI_1 _) (nm_r (nI_1 c) i)
        · rw [ft_cnt_f (P := fun c => A c ∧ rt c = rt a) (fun q => g q.2)] at i
          exact nm_r (nI_1 c) i
theorem fx_re64 {post : Int32 → SX → Prop} {A : Nat → Prop} {a : Nat} {w : Int32} (ha : a < 64) (J : ft_jn a_heights a_leader a_top a_active A) (hA : ∀ x, x < 64 → (A x ↔ (a_heights x).toInt ≤ w.toInt)) (hw : (a_heights a).toInt ≤ w.toInt)
    (H : ∀ ld : Nat → Int32, post (nI (ft_cnt (ft_cn (fun x => (a_heights x).toInt ≤ w.toInt) a) 64)) (f_ready, f_heap, a_heights, a_levels, a_heapCell, a_met, a_order, ld, a_top, a_active, a_queue)) : wX_reach_64 post (nI a) f_ready f_heap a_heights a_levels a_heapCell a_met a_order a_leader a_top a_active a_queue := by
  obtain ⟨ja, rt, rk, u, t, s, m⟩ := J
  refine fx_find ha u (fun ld1 u1 => ⟨65, fx_re76 ha ja (fun ld => ?_) 65 0 ld1 (by omega) (by omega) u1⟩)
  rw [ft_cnt_congr (Q := ft_cn (fun x => (a_heights x).toInt ≤ w.toInt) a) 64 (fun c hc => ?_)]
  · exact H ld
  · have k := ft_rt_cn s m ha hc ((hA a ha).mpr hw)
    constructor
    · rintro ⟨_, q⟩
      exact ft_cn_m64 ha (fun x hx r => (hA x hx).mp r) (k.mp q.symm)
    · intro q
      have q' : ft_cn A a c := ft_cn_m64 ha (fun x hx r => (hA x hx).mpr r) q
      exact ⟨ft_cn_P q', (k.mpr q').symm⟩
theorem fx_re27 {post : Int32 → SX → Prop} {a : Nat} {w : Int32} (ha : a < 64) (so : ft_so a_heights a_order) (hw : (a_heights a).toInt ≤ w.toInt)
    (H : ∀ ld tp ac : Nat → Int32, post (nI (ft_cnt (ft_cn (fun x => (a_heights x).toInt ≤ w.toInt) a) 64)) (f_ready, f_heap, a_heights, a_levels, a_heapCell, a_met, a_order, ld, tp, ac, a_queue)) :
    ∀ (n i : Nat) (ld tp ac : Nat → Int32), i ≤ 64 → 64 < i + n → ft_jn a_heights ld tp ac (ft_A a_order i) → (∀ x, ft_A a_order i x → (a_heights x).toInt ≤ w.toInt) →
      wX_reach_27 post (nI a) w n (nI i) f_ready f_heap a_heights a_levels a_heapCell a_met a_order ld tp ac a_queue := by
  intro n
  induction n with
  | zero => intro i ld tp ac h1 h2; omega
  | succ n ih =>
    intro i ld tp ac h1 h2 J L
    refine pk_le 64 i (fun h => fx_re64 ha J (fun x hx => ⟨L x, fun _ => ?_⟩) hw (fun ld => H ld tp ac)) (fun h => And.intro (vp_in_nI h (by decide)) ?_)
    · have e : i = 64 := by omega
      subst e
      exact ft_A_64 so x hx
    · rw [nI_clamp (n := i) (by omega)]
      obtain ⟨x, hx, e⟩ := so.1 i h
      rw [e, nI_clamp (n := x) (by omega)]
      refine And.intro (vp_in_nI hx (by decide)) (ft_bt (fun g => fx_re64 ha J (fun y hy => ⟨L y, fun q => ft_A_lt so hx e hy (by omega)⟩) hw (fun ld => H ld tp ac)) (fun g => And.intro (vp_in_nI h (by decide)) (fx_act hx (ft_A_s so h hx e) J (fun ld1 tp1 ac1 J1 => nm_r (nI_1 i) (ih (i + 1) ld1 tp1 ac1 (by omega) (by omega) J1 (fun y q => ?_))))))
      have := ft_A_le so h hx e q
      omega
theorem fx_reach {post : Int32 → SX → Prop} {a : Nat} {w : Int32} (ha : a < 64)
    (H : ∀ od ld tp ac : Nat → Int32, post (nI (ft_cnt (ft_cn (fun x => (a_heights x).toInt ≤ w.toInt) a) 64)) (f_ready, f_heap, a_heights, a_levels, a_heapCell, a_met, od, ld, tp, ac, a_queue)) :
    wpX_reach post (f_ready, f_heap, a_heights, a_levels, a_heapCell, a_met, a_order, a_leader, a_top, a_active, a_queue) (nI a) w := by
  unfold wpX_reach
  dsimp only
  refine fx_bad_ok ha (br_t rfl (And.intro (vp_in_nI ha (by decide)) (ft_bl (fun g => fx_start (fun od ld tp ac so h1 h2 h3 => ⟨65, fx_re27 ha so ?_ (fun ld tp ac => H od ld tp ac) 65 0 ld tp ac (by omega) (by omega) (ft_jn_0 h1 h2 h3 ft_A_0) (fun x q => absurd q (ft_A_0 x))⟩)) (fun g => ?_))))
  · rw [nI_clamp (n := a) (by omega)] at g
    exact g
  · rw [nI_clamp (n := a) (by omega)] at g
    have h := H a_order a_leader a_top a_active
    rw [ft_cnt_none 64 (fun x _ q => by have z : (a_heights a).toInt ≤ w.toInt := ft_cn_Pa q; omega)] at h
    exact h
theorem fx_pm16 {post : Int32 → SX → Prop} {a : Nat} (ha : a < 64) (hh0 : ∀ x, 0 ≤ (a_heights x).toInt) (hh : ∀ x, (a_heights x).toInt ≤ 99) (so : ft_so a_heights a_order)
    (H : ∀ (v : Int32) (ld tp ac : Nat → Int32), ft_sd a_heights a v → post (a_heights a - v) (f_ready, f_heap, a_heights, a_levels, a_heapCell, a_met, a_order, ld, tp, ac, a_queue)) :
    ∀ (n k : Nat) (ld tp ac : Nat → Int32), k ≤ 64 → k < n → ft_jn a_heights ld tp ac (ft_B a_order k) → (¬ ∃ y, ft_cn (ft_B a_order k) a y ∧ (a_heights a).toInt < (a_heights y).toInt) →
      wX_prominence_16 post (nI a) n (nI k + (-1)) f_ready f_heap a_heights a_levels a_heapCell a_met a_order ld tp ac a_queue := by
  intro n
  induction n with
  | zero => intro k ld tp ac h1 h2; omega
  | succ n ih =>
    intro k ld tp ac h1 h2 J nf
    by_cases k0 : k = 0
    · subst k0
      obtain ⟨x, hx, e⟩ := so.1 0 (by omega)
      refine br_t (by decide) (And.intro (vp_in_nI ha (by decide)) ?_)
      rw [nI_clamp (n := a) (by omega), e, nI_clamp (n := x) (by omega)]
      refine And.intro (vp_in_nI hx (by decide)) (H _ ld tp ac ⟨fun q => ?_, fun _ t => ?_⟩)
      · obtain ⟨y, hy, g, c⟩ := q
        exact absurd ⟨y, ft_cn_m64 ha (fun z hz _ => ft_B_0 so z hz) c, g⟩ nf
      · constructor
        · intro q
          exact Or.inr ⟨x, hx, q⟩
        · rintro (q | ⟨y, hy, q⟩)
          · have := hh x
            omega
          · have z := ft_B_ge so hx e (ft_B_0 so y hy)
            omega
    · obtain ⟨i, rfl⟩ : ∃ i, k = i + 1 := ⟨k - 1, by omega⟩
      rw [pk_m1]
      have hi : i < 64 := by omega
      obtain ⟨x, hx, e⟩ := so.1 i hi
      refine br_f (nI_pos (by omega)) (And.intro (vp_in_nI hi (by decide)) ?_)
      rw [nI_clamp (n := i) (by omega), e]
      refine fx_act hx (ft_B_s hi hx e) J (fun ld1 tp1 ac1 J1 => And.intro (vp_in_nI ha (by decide)) ?_)
      obtain ⟨ja, rt, rk, u, t, s, m⟩ := J1
      rw [nI_clamp (n := a) (by omega)]
      by_cases za : ac1 a = 0
      · have nA : ¬ ft_B a_order i a := fun q => (ja a ha).mpr q za
        exact br_t za (nm_e (ih i ld1 tp1 ac1 (by omega) (by omega) ⟨ja, rt, rk, u, t, s, m⟩ (fun ⟨y, q, _⟩ => nA (ft_cn_Pa q))))
      · refine br_f za (fx_find ha u (fun ld2 u2 => ?_))
        have Aa := (ja a ha).mp za
        obtain ⟨ra, rr, _⟩ := u2 a ha
        obtain ⟨t1, y0, hy0, ry0, ey0⟩ := t (rt a) ra rr
        refine And.intro (vp_in_nI ra (by decide)) (And.intro (vp_in_nI ha (by decide)) ?_)
        rw [nI_clamp (n := rt a) (by omega)]
        refine ft_bl (fun g => nm_e (ih i ld2 tp1 ac1 (by omega) (by omega) ⟨ja, rt, rk, u2, t, s, m⟩ ?_)) (fun g => And.intro (vp_in_nI ha (by decide)) (And.intro (vp_in_nI hi (by decide)) ?_))
        · rintro ⟨y, q, l⟩
          have hy : y < 64 := ft_cn_lt ha q
          have := t1 y hy ((ft_rt_cn s m ha hy Aa).mpr q).symm
          omega
        · rw [e, nI_clamp (n := x) (by omega)]
          have cy : ft_cn (ft_B a_order i) a y0 := (ft_rt_cn s m ha hy0 Aa).mp ry0.symm
          have hi0 : ∀ t : Int, t ≤ (a_heights x).toInt → ft_hi a_heights a t := fun t ht =>
            ⟨y0, hy0, by omega, ft_cn_m (fun z q => by have := ft_B_ge so hx e q; omega) cy⟩
          refine And.intro (vp_in_nI hx (by decide)) (H _ ld2 tp1 ac1 ⟨fun _ t ht => ⟨hi0 t, fun q => ?_⟩, fun q => absurd (hi0 0 (hh0 x)) q⟩)
          obtain ⟨y, hy, l, c⟩ := q
          refine Int.not_lt.mp fun w => nf ⟨y, ft_cn_m64 ha (fun z hz r => ft_B_gt so hi hx e hz ?_) c, l⟩
          have r' : t ≤ (a_heights z).toInt := r
          omega
theorem fx_prominence {post : Int32 → SX → Prop} {a : Nat} (ha : a < 64) (hh0 : ∀ x, 0 ≤ (a_heights x).toInt) (hh : ∀ x, (a_heights x).toInt ≤ 99)
    (H : ∀ (v : Int32) (od ld tp ac : Nat → Int32), ft_sd a_heights a v → post (a_heights a - v) (f_ready, f_heap, a_heights, a_levels, a_heapCell, a_met, od, ld, tp, ac, a_queue)) :
    wpX_prominence post (f_ready, f_heap, a_heights, a_levels, a_heapCell, a_met, a_order, a_leader, a_top, a_active, a_queue) (nI a) := by
  unfold wpX_prominence
  dsimp only
  refine fx_bad_ok ha (br_t rfl (fx_start (fun od ld tp ac so h1 h2 h3 => ⟨65, ?_⟩)))
  have e : (63 : Int32) = nI 64 + (-1) := by decide
  rw [e]
  exact fx_pm16 ha hh0 hh so (fun v ld tp ac q => H v od ld tp ac q) 65 64 ld tp ac (by omega) (by omega) (ft_jn_0 h1 h2 h3 ft_B_64) (fun ⟨y, q, _⟩ => ft_B_64 _ (ft_cn_P q))
end
end
section
/-! the component's walks over cells that hang together -/
def ft_bf (P M : Nat → Prop) (s n : Nat) (met qu : Nat → Int32) : Prop :=
  (∀ x, x < 64 → (met x ≠ 0 ↔ M x ∨ ft_lo qu n x)) ∧ (∀ j, j < n → ∃ x, x < 64 ∧ qu j = nI x ∧ ft_cn P s x ∧ ¬ M x) ∧ n = ft_cnt (ft_lo qu n) 64 ∧ ft_lo qu n s
theorem ft_lo_u {qu : Nat → Int32} {n y x : Nat} (hx : x < 64) (hy : y < 64) : ft_lo (upd qu n (nI y)) (n + 1) x ↔ ft_lo qu n x ∨ x = y := by
  constructor
  · rintro ⟨j, hj, e⟩
    by_cases jn : j = n
    · rw [jn, pk_us] at e
      exact Or.inr ((nI_eq (by omega) (by omega)).mp e).symm
    · rw [pk_un jn] at e
      exact Or.inl ⟨j, by omega, e⟩
  · rintro (⟨j, hj, e⟩ | e)
    · exact ⟨j, by omega, by rw [pk_un (by omega)]; exact e⟩
    · exact ⟨n, by omega, by rw [pk_us, e]⟩
theorem ft_bf_0 {P M : Nat → Prop} {s : Nat} {met qu : Nat → Int32} (hs : s < 64) (ps : P s) (ms : ¬ M s) (h : ∀ x, x < 64 → (met x ≠ 0 ↔ M x)) : ft_bf P M s 1 (upd met s 1) (upd qu 0 (nI s)) := by
  have l0 : ∀ x, ¬ ft_lo qu 0 x := fun x ⟨j, hj, _⟩ => absurd hj (Nat.not_lt_zero j)
  have l1 : ∀ x, x < 64 → (ft_lo (upd qu 0 (nI s)) 1 x ↔ x = s) := fun x hx => by
    rw [ft_lo_u hx hs]
    exact ⟨fun q => q.elim (fun z => absurd z (l0 x)) id, Or.inr⟩
  refine ⟨fun x hx => ?_, fun j hj => ?_, ?_, (l1 s hs).mpr rfl⟩
  · rw [l1 x hx]
    by_cases e : x = s
    · rw [e, pk_us]
      exact ⟨fun _ => Or.inr rfl, fun _ => ft_m1⟩
    · rw [pk_un e, h x hx]
      exact ⟨Or.inl, fun q => q.elim id (fun z => absurd z e)⟩
  · have e : j = 0 := by omega
    rw [e, pk_us]
    exact ⟨s, hs, rfl, ft_cn_r ps, ms⟩
  · have z := ft_cnt_add (P := fun _ => False) (Q := ft_lo (upd qu 0 (nI s)) 1) 64 s hs id (fun y hy => by rw [l1 y hy]; exact ⟨Or.inr, fun q => q.elim (fun f => absurd f id) id⟩)
    rw [z, ft_cnt_none 64 (fun _ _ q => q)]
theorem ft_bf_le {P M : Nat → Prop} {s n : Nat} {met qu : Nat → Int32} (h : ft_bf P M s n met qu) : n ≤ 64 := by
  rw [h.2.2.1]
  exact ft_cnt_le _ 64
theorem ft_bf_a {P M : Nat → Prop} {s n y : Nat} {met qu : Nat → Int32} (h : ft_bf P M s n met qu) (hy : y < 64) (m : met y = 0) (c : ft_cn P s y) : n < 64 ∧ ft_bf P M s (n + 1) (upd met y 1) (upd qu n (nI y)) := by
  obtain ⟨h1, h2, h3, s, hs, es⟩ := h
  have ny : ¬ (M y ∨ ft_lo qu n y) := fun q => (h1 y hy).mpr q m
  have nl : ¬ ft_lo qu n y := fun q => ny (Or.inr q)
  have n64 : n < 64 := by
    have := ft_cnt_lt_n (P := ft_lo qu n) hy nl
    omega
  refine ⟨n64, fun x hx => ?_, fun j hj => ?_, ?_, s, by omega, ?_⟩
  · rw [ft_lo_u hx hy, ← or_assoc]
    by_cases e : x = y
    · rw [e, pk_us]
      exact ⟨fun _ => Or.inr rfl, fun _ => ft_m1⟩
    · rw [pk_un e, h1 x hx]
      exact ⟨Or.inl, fun q => q.elim id (fun z => absurd z e)⟩
  · by_cases e : j = n
    · rw [e, pk_us]
      exact ⟨y, hy, rfl, c, fun q => ny (Or.inl q)⟩
    · rw [pk_un e]
      exact h2 j (by omega)
  · have z := ft_cnt_add (P := ft_lo qu n) (Q := ft_lo (upd qu n (nI y)) (n + 1)) 64 y hy nl (fun x hx => ft_lo_u hx hy)
    rw [z, ← h3]
  · rw [pk_un (by omega)]
    exact es
/-- the first i cells of the queue have been looked at -/
def ft_cd (P : Nat → Prop) (met qu : Nat → Int32) (i : Nat) : Prop := ∀ j, j < i → ∀ x, x < 64 → qu j = nI x → ∀ y, ft_adj x y → P y → met y ≠ 0
theorem ft_bf_e {P M : Nat → Prop} {s n : Nat} {met qu : Nat → Int32} (h : ft_bf P M s n met qu) (hs : s < 64) (d : ft_cd P met qu n) (hM : ∀ x y, M x → P x → P y → ft_adj x y → M y) {x : Nat} (hx : x < 64) : ft_lo qu n x ↔ ft_cn P s x := by
  obtain ⟨h1, h2, h3, h4⟩ := h
  have up : ∀ y, y < 64 → ft_lo qu n y → ft_cn P s y ∧ ¬ M y := by
    rintro y hy ⟨j, hj, e⟩
    obtain ⟨z, hz, ez, c, m⟩ := h2 j hj
    have : z = y := (nI_eq (by omega) (by omega)).mp (ez.symm.trans e)
    subst this
    exact ⟨c, m⟩
  constructor
  · intro q
    exact (up x hx q).1
  · intro q
    refine (q (fun x => x < 64 ∧ ft_lo qu n x) (fun x q => ?_) (fun x y t e => ⟨e.1.1, ?_⟩)).2
    · have := q.1
      subst this
      exact ⟨hs, h4⟩
    · obtain ⟨hy, j, hj, ej⟩ := t
      rcases (h1 x e.1.1).mp (d j hj y hy ej x (ft_adj_c e.1) e.2) with m | l
      · obtain ⟨c, nm⟩ := up y hy ⟨j, hj, ej⟩
        exact absurd (hM x y m e.2 (ft_cn_P c) e.1) nm
      · exact l
theorem ft_cd_a {P : Nat → Prop} {met qu : Nat → Int32} {i n y : Nat} {v : Int32} (hi : i ≤ n) (d : ft_cd P met qu i) : ft_cd P (upd met y 1) (upd qu n v) i := by
  intro j hj x hx e z a p
  rw [pk_un (by omega)] at e
  by_cases q : z = y
  · rw [q, pk_us]; exact ft_m1
  · rw [pk_un q]; exact d j hj x hx e z a p
theorem ft_cd_s {P : Nat → Prop} {met qu : Nat → Int32} {i c : Nat} (hc : c < 64) (e : qu i = nI c) (d : ft_cd P met qu i) (p : ft_pa ft_dx c 4 (fun y => P y → met y ≠ 0)) : ft_cd P met qu (i + 1) := by
  intro j hj x hx ex y a q
  by_cases ji : j = i
  · subst ji
    have : x = c := (nI_eq (by omega) (by omega)).mp (ex.symm.trans e)
    subst this
    exact ft_pa_4 p y a q
  · exact d j (by omega) x hx ex y a q
section
variable {f_ready f_heap : Int32} {a_heights a_levels a_heapCell a_met a_order a_leader a_top a_active a_queue : Nat → Int32}
theorem fx_fo2 {post : SX → Prop} (H : ∀ met : Nat → Int32, (∀ x, x < 64 → met x = 0) → post (f_ready, f_heap, a_heights, a_levels, a_heapCell, met, a_order, a_leader, a_top, a_active, a_queue)) :
    ∀ (n c : Nat) (met : Nat → Int32), c ≤ 64 → 64 < c + n → (∀ x, x < c → met x = 0) → wX_forget_2 post f_ready f_heap n (nI c) a_heights a_levels a_heapCell met a_order a_leader a_top a_active a_queue := by
  intro n
  induction n with
  | zero => intro c met h1 h2; omega
  | succ n ih =>
    intro c met h1 h2 Z
    refine pk_le 64 c (fun h => H met (fun x hx => Z x (by omega))) (fun h => And.intro (vp_in_nI h (by decide)) (nm_r (e' := upd met c 0) (ft_up h) (nm_r (nI_1 c) (ih (c + 1) _ (by omega) (by omega) (fun x hx => ?_)))))
    by_cases e : x = c
    · subst e; exact pk_us
    · rw [pk_un e]; exact Z x (by omega)
theorem fx_forget {post : SX → Prop} (H : ∀ met : Nat → Int32, (∀ x, x < 64 → met x = 0) → post (f_ready, f_heap, a_heights, a_levels, a_heapCell, met, a_order, a_leader, a_top, a_active, a_queue)) : wpX_forget post (f_ready, f_heap, a_heights, a_levels, a_heapCell, a_met, a_order, a_leader, a_top, a_active, a_queue) :=
  ⟨65, fx_fo2 H 65 0 a_met (by omega) (by omega) (fun x hx => absurd hx (Nat.not_lt_zero x))⟩
theorem fx_wl26 {post : Int32 → SX → Prop} {J : Int32 → Int32 → (Nat → Int32) → (Nat → Int32) → (Nat → Int32) → (Nat → Int32) → (Nat → Int32) → (Nat → Int32) → (Nat → Int32) → (Nat → Int32) → (Nat → Int32) → Prop}
    {P M : Nat → Prop} {s i c : Nat} (hP : ∀ x, x < 64 → (P x ↔ (a_heights x).toInt < (a_levels x).toInt)) (hc : c < 64) (cc : ft_cn P s c)
    (HJ : ∀ (N : Nat) (met qu : Nat → Int32), ft_bf P M s N met qu → i < N → ft_cd P met qu (i + 1) → J (nI N) (nI (i + 1)) a_heights a_levels a_heapCell met a_order a_leader a_top a_active qu) :
    ∀ (n d N : Nat) (met qu : Nat → Int32), d ≤ 4 → 4 < d + n → ft_bf P M s N met qu → i < N → qu i = nI c → ft_cd P met qu i → ft_pa ft_dx c d (fun y => P y → met y ≠ 0) →
      wX_walkLake_26 post J (nI i) f_ready f_heap n (nI N) (nI d) a_heights a_levels a_heapCell met a_order a_leader a_top a_active qu := by
  intro n
  induction n with
  | zero => intro d N met qu h1 h2; omega
  | succ n ih =>
    intro d N met qu h1 h2 B hi eq D Q
    have hN := ft_bf_le B
    refine pk_le 4 d (fun h => nm_r (nI_1 i) (HJ N met qu B hi (ft_cd_s hc eq D ?_))) (fun h => And.intro (vp_in_nI (by omega) (by decide)) ?_)
    · have e : d = 4 := by omega
      subst e
      exact Q
    · rw [nI_clamp (n := i) (by omega), eq]
      refine fx_nb hc (by omega) (fun hn => ?_) (fun y hy hd => ?_)
      · exact br_t (by decide) (nm_r (nI_1 d) (ih (d + 1) N met qu (by omega) (by omega) B hi eq D (ft_pa_n hn Q)))
      · refine br_f (nI_pos (by omega)) (And.intro (vp_in_nI hy (by decide)) ?_)
        rw [nI_clamp (n := y) (by omega)]
        by_cases m : met y = 0
        · refine br_t m (And.intro (vp_in_nI hy (by decide)) (And.intro (vp_in_nI hy (by decide)) (ft_bl (fun g => ?_) (fun g => ?_))))
          · exact nm_r (nI_1 d) (ih (d + 1) N met qu (by omega) (by omega) B hi eq D (ft_pa_y hd Q (fun p => absurd ((hP y hy).mp p) (by omega))))
          · have py := (hP y hy).mpr g
            obtain ⟨n64, B'⟩ := ft_bf_a B hy m (ft_cn_e cc (ft_adj_c (ft_dx_adj hc hy hd)) py)
            refine And.intro (vp_in_nI hy (by decide)) (nm_e (And.intro (vp_in_nI n64 (by decide)) (nm_r (e' := upd qu N (nI y)) (ft_up n64) (nm_r (nI_1 N) (nm_r (nI_1 d) (ih (d + 1) (N + 1) (upd met y 1) _ (by omega) (by omega) B' (by omega) ?_ (ft_cd_a (by omega) D) (ft_pa_y hd (ft_pa_m (fun z q p => ?_) Q) (fun _ => ?_))))))))
            · rw [pk_un (by omega)]
              exact eq
            · by_cases e : z = y
              · rw [e, pk_us]; exact ft_m1
              · rw [pk_un e]; exact q p
            · rw [pk_us]; exact ft_m1
        · exact br_f m (nm_r (nI_1 d) (ih (d + 1) N met qu (by omega) (by omega) B hi eq D (ft_pa_y hd Q (fun _ => m))))
theorem fx_wl18 {post : Int32 → SX → Prop} {P M : Nat → Prop} {s : Nat} (hs : s < 64) (hP : ∀ x, x < 64 → (P x ↔ (a_heights x).toInt < (a_levels x).toInt))
    (hM : ∀ x y, M x → P x → P y → ft_adj x y → M y)
    (H : ∀ met qu : Nat → Int32, (∀ x, x < 64 → (met x ≠ 0 ↔ M x ∨ ft_cn P s x)) → post (nI (ft_cnt (ft_cn P s) 64)) (f_ready, f_heap, a_heights, a_levels, a_heapCell, met, a_order, a_leader, a_top, a_active, qu)) :
    ∀ (n i N : Nat) (met qu : Nat → Int32), i ≤ N → 64 < i + n → ft_bf P M s N met qu → ft_cd P met qu i → wX_walkLake_18 post f_ready f_heap n (nI N) (nI i) a_heights a_levels a_heapCell met a_order a_leader a_top a_active qu := by
  intro n
  induction n with
  | zero =>
    intro i N met qu h1 h2 B
    have := ft_bf_le B
    omega
  | succ n ih =>
    intro i N met qu h1 h2 B D
    have hN := ft_bf_le B
    refine pk_le N i (fun h => ?_) (fun h => ?_)
    · have e : i = N := by omega
      subst e
      have k : ∀ x, x < 64 → (ft_lo qu i x ↔ ft_cn P s x) := fun x hx => ft_bf_e B hs D hM hx
      have z := H met qu (fun x hx => by rw [B.1 x hx, k x hx])
      rw [← ft_cnt_congr 64 k, ← B.2.2.1] at z
      exact z
    · obtain ⟨c, hc, ec, cc, _⟩ := B.2.1 i h
      exact ⟨5, fx_wl26 hP hc cc (fun N' met' qu' B' hi' D' => ih (i + 1) N' met' qu' (by omega) (by omega) B' D') 5 0 N met qu (by omega) (by omega) B h ec D ft_pa_0⟩
theorem fx_walk {post : Int32 → SX → Prop} {P M : Nat → Prop} {s : Nat} (hs : s < 64) (hP : ∀ x, x < 64 → (P x ↔ (a_heights x).toInt < (a_levels x).toInt))
    (ps : P s) (ms : ¬ M s) (hm : ∀ x, x < 64 → (a_met x ≠ 0 ↔ M x)) (hM : ∀ x y, M x → P x → P y → ft_adj x y → M y)
    (H : ∀ met qu : Nat → Int32, (∀ x, x < 64 → (met x ≠ 0 ↔ M x ∨ ft_cn P s x)) → post (nI (ft_cnt (ft_cn P s) 64)) (f_ready, f_heap, a_heights, a_levels, a_heapCell, met, a_order, a_leader, a_top, a_active, qu)) : wpX_walkLake post (f_ready, f_heap, a_heights, a_levels, a_heapCell, a_met, a_order, a_leader, a_top, a_active, a_queue) (nI s) :=
  And.intro (vp_in_nI hs (by decide)) (nm_r (e' := upd a_met s 1) (ft_up hs) (nm_e ⟨65, fx_wl18 hs hP hM H 65 0 1 (upd a_met s 1) (upd a_queue 0 (nI s)) (by omega) (by omega) (ft_bf_0 hs ps ms hm) (fun j hj => absurd hj (Nat.not_lt_zero j))⟩))
/-- the cells of lakes with a cell below c -/
def ft_LM (ah : Nat → Int32) (c x : Nat) : Prop := ∃ s, s < c ∧ ft_cn (ft_lk ah) s x
theorem ft_LM_s {ah : Nat → Int32} {c x : Nat} : ft_LM ah (c + 1) x ↔ ft_LM ah c x ∨ ft_cn (ft_lk ah) c x := by
  constructor
  · rintro ⟨s, hs, q⟩
    by_cases e : s = c
    · subst e; exact Or.inr q
    · exact Or.inl ⟨s, by omega, q⟩
  · rintro (⟨s, hs, q⟩ | q)
    · exact ⟨s, by omega, q⟩
    · exact ⟨c, by omega, q⟩
theorem fx_la12 {post : Int32 → SX → Prop} (hP : ∀ x, x < 64 → (ft_lk a_heights x ↔ (a_heights x).toInt < (a_levels x).toInt))
    (H : ∀ met qu : Nat → Int32, post (nI (ft_cnt (ft_ln a_heights) 64)) (f_ready, f_heap, a_heights, a_levels, a_heapCell, met, a_order, a_leader, a_top, a_active, qu)) :
    ∀ (n c : Nat) (met qu : Nat → Int32), c ≤ 64 → 64 < c + n → (∀ x, x < 64 → (met x ≠ 0 ↔ ft_LM a_heights c x)) → wX_lakes_12 post n (nI (ft_cnt (ft_ln a_heights) c)) (nI c) f_ready f_heap a_heights a_levels a_heapCell met a_order a_leader a_top a_active qu := by
  intro n
  induction n with
  | zero => intro c met qu h1 h2; omega
  | succ n ih =>
    intro c met qu h1 h2 Z
    refine pk_le 64 c (fun h => ?_) (fun h => And.intro (vp_in_nI h (by decide)) ?_)
    · have e : c = 64 := by omega
      subst e
      exact H met qu
    · rw [nI_clamp (n := c) (by omega)]
      by_cases m : met c = 0
      · have nm : ¬ ft_LM a_heights c c := fun q => (Z c h).mpr q m
        refine br_t m (And.intro (vp_in_nI h (by decide)) (And.intro (vp_in_nI h (by decide)) (ft_bl (fun g => ?_) (fun g => ?_))))
        · have nk : ¬ ft_lk a_heights c := fun q => absurd ((hP c h).mp q) (by omega)
          have i := ih (c + 1) met qu (by omega) (by omega) (fun x hx => by
            rw [Z x hx, ft_LM_s]
            exact ⟨Or.inl, fun q => q.elim id (fun z => absurd (ft_cn_Pa z) nk)⟩)
          rw [ft_cnt_f (P := ft_ln a_heights) (fun q => nk q.1)] at i
          exact nm_r (nI_1 c) i
        · have k : ft_lk a_heights c := (hP c h).mpr g
          refine fx_walk h hP k nm Z (fun x y q _ py a => ?_) (fun met' qu' Z' => ?_)
          · obtain ⟨s, hs, w⟩ := q
            exact ⟨s, hs, ft_cn_e w (ft_adj_c a) py⟩
          · have i := ih (c + 1) met' qu' (by omega) (by omega) (fun x hx => by rw [Z' x hx, ft_LM_s])
            rw [ft_cnt_t (P := ft_ln a_heights) ⟨k, nm⟩] at i
            exact nm_r (nI_1 _) (nm_r (nI_1 c) i)
      · have mm : ft_LM a_heights c c := (Z c h).mp m
        have i := ih (c + 1) met qu (by omega) (by omega) (fun x hx => by
          rw [Z x hx, ft_LM_s]
          refine ⟨Or.inl, fun q => q.elim id (fun z => ?_)⟩
          obtain ⟨s, hs, w⟩ := mm
          exact ⟨s, hs, ft_cn_t w z⟩)
        rw [ft_cnt_f (P := ft_ln a_heights) (fun q => q.2 mm)] at i
        exact br_f m (nm_r (nI_1 c) i)
theorem fx_lakes {post : Int32 → SX → Prop} (hh0 : ∀ x, 0 ≤ (a_heights x).toInt) (hh : ∀ x, (a_heights x).toInt ≤ 99)
    (hr : f_ready ≠ 0 → ft_seal (fun x => (a_heights x).toInt) ft_bd (fun x => (a_levels x).toInt))
    (H : ∀ (fr fh : Int32) (lv hc met qu : Nat → Int32), ft_seal (fun x => (a_heights x).toInt) ft_bd (fun x => (lv x).toInt) → post (nI (ft_cnt (ft_ln a_heights) 64)) (fr, fh, a_heights, lv, hc, met, a_order, a_leader, a_top, a_active, qu)) :
    wpX_lakes post (f_ready, f_heap, a_heights, a_levels, a_heapCell, a_met, a_order, a_leader, a_top, a_active, a_queue) := by
  unfold wpX_lakes
  dsimp only
  exact fx_prepare hh0 hh hr (fun fr fh lv hc met s => fx_forget (fun met' z => ⟨65, fx_la12 (fun x hx => ft_lk_s hh s hx) (fun met'' qu => H fr fh lv hc met'' qu s) 65 0 met' a_queue (by omega) (by omega) (fun x hx => ⟨fun q => absurd (z x hx) q, fun ⟨s, hs, _⟩ => absurd hs (Nat.not_lt_zero s)⟩)⟩))
theorem ft_lv_P {h : Nat → Int} {B : Nat → Prop} {t : Int} {c : Nat} (q : ft_lv h B t c) : h c ≤ t := q (fun x => h x ≤ t) (fun _ s => s.2) (fun _ _ _ e => e.2)
theorem fx_lakeSize {post : Int32 → SX → Prop} {a : Nat} (ha : a < 64) (hh0 : ∀ x, 0 ≤ (a_heights x).toInt) (hh : ∀ x, (a_heights x).toInt ≤ 99)
    (hr : f_ready ≠ 0 → ft_seal (fun x => (a_heights x).toInt) ft_bd (fun x => (a_levels x).toInt))
    (H1 : ft_lk a_heights a → ∀ (fr fh : Int32) (lv hc met qu : Nat → Int32), ft_seal (fun x => (a_heights x).toInt) ft_bd (fun x => (lv x).toInt) → post (nI (ft_cnt (ft_cn (ft_lk a_heights) a) 64)) (fr, fh, a_heights, lv, hc, met, a_order, a_leader, a_top, a_active, qu))
    (H0 : ¬ ft_lk a_heights a → ∀ (fr fh : Int32) (lv hc met qu : Nat → Int32), ft_seal (fun x => (a_heights x).toInt) ft_bd (fun x => (lv x).toInt) → post 0 (fr, fh, a_heights, lv, hc, met, a_order, a_leader, a_top, a_active, qu)) :
    wpX_lakeSize post (f_ready, f_heap, a_heights, a_levels, a_heapCell, a_met, a_order, a_leader, a_top, a_active, a_queue) (nI a) := by
  unfold wpX_lakeSize
  dsimp only
  refine fx_bad_ok ha (br_t rfl (fx_prepare hh0 hh hr (fun fr fh lv hc met s => And.intro (vp_in_nI ha (by decide)) (And.intro (vp_in_nI ha (by decide)) ?_))))
  rw [nI_clamp (n := a) (by omega)]
  have k := ft_lk_s hh s ha
  refine ft_be (fun g => H0 (fun q => absurd (k.mp q) (by have g1 : (lv a).toInt = (a_heights a).toInt := g; omega)) fr fh lv hc met a_queue s) (fun g => ?_)
  have l : ft_lk a_heights a := by
    rw [k]
    have g1 : (lv a).toInt ≠ (a_heights a).toInt := g
    have h9 : (lv a).toInt ≤ 99 := ft_seal_99 (b := 0) (fun x _ => hh x) (by omega) ⟨by omega, by omega⟩ s ha
    have z : (a_heights a).toInt ≤ (lv a).toInt := ft_lv_P ((s a ha (lv a).toInt (by omega)).mp (Int.le_refl _))
    omega
  exact fx_forget (fun met' z => fx_walk (M := fun _ => False) ha (fun x hx => ft_lk_s hh s hx) l id (fun x hx => ⟨fun q => absurd (z x hx) q, fun q => absurd q id⟩) (fun _ _ q => absurd q id) (fun met'' qu _ => H1 l fr fh lv hc met'' qu s))
end
end
section
/-! the component's summits, level, volume -/
/-- the flag: 1 as long as nothing higher has been seen beside the first i cells of the queue -/
def ft_fg (ah : Nat → Int32) (s : Nat) (qu : Nat → Int32) (i : Nat) (f : Int32) : Prop :=
  (f = 0 ∧ ∃ x, ft_cn (ft_al ah s) s x ∧ ft_hh ah x) ∨ (f = 1 ∧ ∀ j, j < i → ∀ x, x < 64 → qu j = nI x → ∀ y, ft_adj x y → (ah y).toInt ≤ (ah s).toInt)
theorem ft_fg_a {ah qu : Nat → Int32} {s i n : Nat} {f v : Int32} (hi : i ≤ n) (h : ft_fg ah s qu i f) : ft_fg ah s (upd qu n v) i f := by
  rcases h with h | ⟨h, q⟩
  · exact Or.inl h
  · refine Or.inr ⟨h, fun j hj x hx e => ?_⟩
    rw [pk_un (by omega)] at e
    exact q j hj x hx e
/-- and in the directions below d of cell c -/
def ft_fd (ah : Nat → Int32) (s : Nat) (qu : Nat → Int32) (i c d : Nat) (f : Int32) : Prop :=
  ft_fg ah s qu i f ∧ (f = 1 → ft_pa ft_dx c d (fun y => (ah y).toInt ≤ (ah s).toInt))
theorem ft_fd_a {ah qu : Nat → Int32} {s i c d n : Nat} {f v : Int32} (hi : i ≤ n) (h : ft_fd ah s qu i c d f) : ft_fd ah s (upd qu n v) i c d f := ⟨ft_fg_a hi h.1, h.2⟩
theorem ft_fd_e {ah qu : Nat → Int32} {s i c : Nat} {f : Int32} (hc : c < 64) (e : qu i = nI c) (h : ft_fd ah s qu i c 4 f) : ft_fg ah s qu (i + 1) f := by
  obtain ⟨h, p⟩ := h
  rcases h with h | ⟨h, q⟩
  · exact Or.inl h
  · refine Or.inr ⟨h, fun j hj x hx ex => ?_⟩
    by_cases ji : j = i
    · subst ji
      have : x = c := (nI_eq (by omega) (by omega)).mp (ex.symm.trans e)
      subst this
      exact ft_pa_4 (p h)
    · exact q j (by omega) x hx ex
section
variable {f_ready f_heap : Int32} {a_heights a_levels a_heapCell a_met a_order a_leader a_top a_active a_queue : Nat → Int32}
theorem fx_sa73 {post : Int32 → SX → Prop} {J21 J30 : Int32 → Int32 → Int32 → (Nat → Int32) → (Nat → Int32) → (Nat → Int32) → (Nat → Int32) → (Nat → Int32) → (Nat → Int32) → (Nat → Int32) → (Nat → Int32) → (Nat → Int32) → Prop}
    {M : Nat → Prop} {s i c d N y : Nat} {f : Int32} (hs : s < 64) (hc : c < 64) (cc : ft_cn (ft_al a_heights s) s c) (hy : y < 64) (hd : ft_dx c d y) (dd : d < 4)
    (B : ft_bf (ft_al a_heights s) M s N a_met a_queue) (hi : i < N) (eq : a_queue i = nI c) (D : ft_cd (ft_al a_heights s) a_met a_queue i) (Q : ft_pa ft_dx c d (fun y => ft_al a_heights s y → a_met y ≠ 0))
    (F : ft_fd a_heights s a_queue i c (d + 1) f)
    (HJ : ∀ (N : Nat) (met qu : Nat → Int32), ft_bf (ft_al a_heights s) M s N met qu → i < N → qu i = nI c → ft_cd (ft_al a_heights s) met qu i → ft_pa ft_dx c (d + 1) (fun y => ft_al a_heights s y → met y ≠ 0) → ft_fd a_heights s qu i c (d + 1) f → J30 (nI N) f (nI (d + 1)) a_heights a_levels a_heapCell met a_order a_leader a_top a_active qu) :
    wX_summitAt_73 post J21 J30 (nI s) (nI N) f (nI i) (nI d) (nI y) f_ready f_heap a_heights a_levels a_heapCell a_met a_order a_leader a_top a_active a_queue := by
  refine br_f (nI_pos (by omega)) (And.intro (vp_in_nI hy (by decide)) ?_)
  rw [nI_clamp (n := y) (by omega)]
  by_cases m : a_met y = 0
  · refine br_t m (And.intro (vp_in_nI hy (by decide)) (And.intro (vp_in_nI hs (by decide)) ?_))
    rw [nI_clamp (n := s) (by omega)]
    refine ft_be (fun g => ?_) (fun g => ?_)
    · obtain ⟨n64, B'⟩ := ft_bf_a B hy m (ft_cn_e cc (ft_adj_c (ft_dx_adj hc hy hd)) g)
      refine And.intro (vp_in_nI hy (by decide)) (nm_e (And.intro (vp_in_nI n64 (by decide)) (nm_r (e' := upd a_queue N (nI y)) (ft_up n64) (nm_r (nI_1 N) (nm_r (nI_1 d) (HJ (N + 1) (upd a_met y 1) _ B' (by omega) ?_ (ft_cd_a (by omega) D) (ft_pa_y hd (ft_pa_m (fun z q p => ?_) Q) (fun _ => ?_)) (ft_fd_a (by omega) F)))))))
      · rw [pk_un (by omega)]
        exact eq
      · by_cases e : z = y
        · rw [e, pk_us]; exact ft_m1
        · rw [pk_un e]; exact q p
      · rw [pk_us]; exact ft_m1
    · exact nm_r (nI_1 d) (HJ N a_met a_queue B hi eq D (ft_pa_y hd Q (fun p => absurd p g)) F)
  · exact br_f m (nm_r (nI_1 d) (HJ N a_met a_queue B hi eq D (ft_pa_y hd Q (fun _ => m)) F))
theorem fx_sa73n {post : Int32 → SX → Prop} {J21 J30 : Int32 → Int32 → Int32 → (Nat → Int32) → (Nat → Int32) → (Nat → Int32) → (Nat → Int32) → (Nat → Int32) → (Nat → Int32) → (Nat → Int32) → (Nat → Int32) → (Nat → Int32) → Prop}
    {x1 x2 f x4 : Int32} {d : Nat} (H : J30 x2 f (nI (d + 1)) a_heights a_levels a_heapCell a_met a_order a_leader a_top a_active a_queue) : wX_summitAt_73 post J21 J30 x1 x2 f x4 (nI d) (-1) f_ready f_heap a_heights a_levels a_heapCell a_met a_order a_leader a_top a_active a_queue :=
  br_t (by decide) (nm_r (nI_1 d) H)
theorem fx_sa30 {post : Int32 → SX → Prop} {J : Int32 → Int32 → Int32 → (Nat → Int32) → (Nat → Int32) → (Nat → Int32) → (Nat → Int32) → (Nat → Int32) → (Nat → Int32) → (Nat → Int32) → (Nat → Int32) → (Nat → Int32) → Prop}
    {M : Nat → Prop} {s i c : Nat} (hs : s < 64) (hc : c < 64) (cc : ft_cn (ft_al a_heights s) s c)
    (HJ : ∀ (N : Nat) (f : Int32) (met qu : Nat → Int32), ft_bf (ft_al a_heights s) M s N met qu → i < N → ft_cd (ft_al a_heights s) met qu (i + 1) → ft_fg a_heights s qu (i + 1) f → J (nI N) f (nI (i + 1)) a_heights a_levels a_heapCell met a_order a_leader a_top a_active qu) :
    ∀ (n d N : Nat) (f : Int32) (met qu : Nat → Int32), d ≤ 4 → 4 < d + n → ft_bf (ft_al a_heights s) M s N met qu → i < N → qu i = nI c → ft_cd (ft_al a_heights s) met qu i → ft_pa ft_dx c d (fun y => ft_al a_heights s y → met y ≠ 0) → ft_fd a_heights s qu i c d f →
      wX_summitAt_30 post J (nI s) (nI i) f_ready f_heap n (nI N) f (nI d) a_heights a_levels a_heapCell met a_order a_leader a_top a_active qu := by
  intro n
  induction n with
  | zero => intro d N f met qu h1 h2; omega
  | succ n ih =>
    intro d N f met qu h1 h2 B hi eq D Q F
    have hN := ft_bf_le B
    refine pk_le 4 d (fun h => nm_r (nI_1 i) ?_) (fun h => And.intro (vp_in_nI (by omega) (by decide)) ?_)
    · have e : d = 4 := by omega
      subst e
      exact HJ N f met qu B hi (ft_cd_s hc eq D Q) (ft_fd_e hc eq F)
    · rw [nI_clamp (n := i) (by omega), eq]
      refine fx_nb hc (by omega) (fun hn => ?_) (fun y hy hd => ?_)
      · exact br_t (by decide) (fx_sa73n (ih (d + 1) N f met qu (by omega) (by omega) B hi eq D (ft_pa_n hn Q) ⟨F.1, fun e => ft_pa_n hn (F.2 e)⟩))
      · refine br_f (nI_pos (by omega)) (And.intro (vp_in_nI hy (by decide)) (And.intro (vp_in_nI hs (by decide)) ?_))
        rw [nI_clamp (n := y) (by omega), nI_clamp (n := s) (by omega)]
        refine ft_bl (fun g => ?_) (fun g => ?_)
        · exact fx_sa73 hs hc cc hy hd (by omega) B hi eq D Q ⟨F.1, fun e => ft_pa_y hd (F.2 e) g⟩ (fun N' met' qu' B' hi' eq' D' Q' F' => ih (d + 1) N' f met' qu' (by omega) (by omega) B' hi' eq' D' Q' F')
        · have e1 : (a_heights c).toInt = (a_heights s).toInt := ft_cn_P cc
          exact fx_sa73 hs hc cc hy hd (by omega) B hi eq D Q ⟨Or.inl ⟨rfl, c, cc, y, ft_dx_adj hc hy hd, by omega⟩, fun e => absurd e (by decide)⟩ (fun N' met' qu' B' hi' eq' D' Q' F' => ih (d + 1) N' 0 met' qu' (by omega) (by omega) B' hi' eq' D' Q' F')
theorem fx_sa21 {post : Int32 → SX → Prop} {M : Nat → Prop} {s : Nat} (hs : s < 64) (hM : ∀ x y, M x → ft_al a_heights s x → ft_al a_heights s y → ft_adj x y → M y)
    (H1 : (¬ ∃ x, ft_cn (ft_al a_heights s) s x ∧ ft_hh a_heights x) → ∀ met qu : Nat → Int32, (∀ x, x < 64 → (met x ≠ 0 ↔ M x ∨ ft_cn (ft_al a_heights s) s x)) → post 1 (f_ready, f_heap, a_heights, a_levels, a_heapCell, met, a_order, a_leader, a_top, a_active, qu))
    (H0 : (∃ x, ft_cn (ft_al a_heights s) s x ∧ ft_hh a_heights x) → ∀ met qu : Nat → Int32, (∀ x, x < 64 → (met x ≠ 0 ↔ M x ∨ ft_cn (ft_al a_heights s) s x)) → post 0 (f_ready, f_heap, a_heights, a_levels, a_heapCell, met, a_order, a_leader, a_top, a_active, qu)) :
    ∀ (n i N : Nat) (f : Int32) (met qu : Nat → Int32), i ≤ N → 64 < i + n → ft_bf (ft_al a_heights s) M s N met qu → ft_cd (ft_al a_heights s) met qu i → ft_fg a_heights s qu i f →
      wX_summitAt_21 post (nI s) f_ready f_heap n (nI N) f (nI i) a_heights a_levels a_heapCell met a_order a_leader a_top a_active qu := by
  intro n
  induction n with
  | zero =>
    intro i N f met qu h1 h2 B
    have := ft_bf_le B
    omega
  | succ n ih =>
    intro i N f met qu h1 h2 B D F
    have hN := ft_bf_le B
    refine pk_le N i (fun h => ?_) (fun h => ?_)
    · have e : i = N := by omega
      subst e
      have k : ∀ x, x < 64 → (ft_lo qu i x ↔ ft_cn (ft_al a_heights s) s x) := fun x hx => ft_bf_e B hs D hM hx
      have z : ∀ x, x < 64 → (met x ≠ 0 ↔ M x ∨ ft_cn (ft_al a_heights s) s x) := fun x hx => by rw [B.1 x hx, k x hx]
      rcases F with ⟨rfl, q⟩ | ⟨rfl, q⟩
      · exact And.intro rfl (H0 q met qu z)
      · refine And.intro rfl (H1 ?_ met qu z)
        rintro ⟨x, cx, y, a, l⟩
        have hx := ft_cn_lt hs cx
        obtain ⟨j, hj, ej⟩ := (k x hx).mpr cx
        have w := q j hj x hx ej y a
        have e1 : (a_heights x).toInt = (a_heights s).toInt := ft_cn_P cx
        omega
    · obtain ⟨c, hc, ec, cc, _⟩ := B.2.1 i h
      exact ⟨5, fx_sa30 hs hc cc (fun N' f' met' qu' B' hi' D' F' => ih (i + 1) N' f' met' qu' (by omega) (by omega) B' D' F') 5 0 N f met qu (by omega) (by omega) B h ec D ft_pa_0 ⟨F, fun _ => ft_pa_0⟩⟩
theorem fx_summitAt {post : Int32 → SX → Prop} {M : Nat → Prop} {s : Nat} (hs : s < 64) (ms : ¬ M s) (hm : ∀ x, x < 64 → (a_met x ≠ 0 ↔ M x)) (hM : ∀ x y, M x → ft_al a_heights s x → ft_al a_heights s y → ft_adj x y → M y)
    (H1 : (¬ ∃ x, ft_cn (ft_al a_heights s) s x ∧ ft_hh a_heights x) → ∀ met qu : Nat → Int32, (∀ x, x < 64 → (met x ≠ 0 ↔ M x ∨ ft_cn (ft_al a_heights s) s x)) → post 1 (f_ready, f_heap, a_heights, a_levels, a_heapCell, met, a_order, a_leader, a_top, a_active, qu))
    (H0 : (∃ x, ft_cn (ft_al a_heights s) s x ∧ ft_hh a_heights x) → ∀ met qu : Nat → Int32, (∀ x, x < 64 → (met x ≠ 0 ↔ M x ∨ ft_cn (ft_al a_heights s) s x)) → post 0 (f_ready, f_heap, a_heights, a_levels, a_heapCell, met, a_order, a_leader, a_top, a_active, qu)) : wpX_summitAt post (f_ready, f_heap, a_heights, a_levels, a_heapCell, a_met, a_order, a_leader, a_top, a_active, a_queue) (nI s) :=
  And.intro (vp_in_nI hs (by decide)) (nm_r (e' := upd a_met s 1) (ft_up hs) (nm_e ⟨65, fx_sa21 hs hM H1 H0 65 0 1 1 (upd a_met s 1) (upd a_queue 0 (nI s)) (by omega) (by omega) (ft_bf_0 hs rfl ms hm) (fun j hj => absurd hj (Nat.not_lt_zero j)) (Or.inr ⟨rfl, fun j hj => absurd hj (Nat.not_lt_zero j)⟩)⟩))
def ft_SM (ah : Nat → Int32) (c x : Nat) : Prop := ∃ s, s < c ∧ ft_cn (ft_al ah s) s x
theorem ft_SM_s {ah : Nat → Int32} {c x : Nat} : ft_SM ah (c + 1) x ↔ ft_SM ah c x ∨ ft_cn (ft_al ah c) c x := by
  constructor
  · rintro ⟨s, hs, q⟩
    by_cases e : s = c
    · subst e; exact Or.inr q
    · exact Or.inl ⟨s, by omega, q⟩
  · rintro (⟨s, hs, q⟩ | q)
    · exact ⟨s, by omega, q⟩
    · exact ⟨c, by omega, q⟩
theorem fx_su8 {post : Int32 → SX → Prop} (H : ∀ met qu : Nat → Int32, post (nI (ft_cnt (ft_sm a_heights) 64)) (f_ready, f_heap, a_heights, a_levels, a_heapCell, met, a_order, a_leader, a_top, a_active, qu)) :
    ∀ (n c : Nat) (met qu : Nat → Int32), c ≤ 64 → 64 < c + n → (∀ x, x < 64 → (met x ≠ 0 ↔ ft_SM a_heights c x)) → wX_summits_8 post n (nI (ft_cnt (ft_sm a_heights) c)) (nI c) f_ready f_heap a_heights a_levels a_heapCell met a_order a_leader a_top a_active qu := by
  intro n
  induction n with
  | zero => intro c met qu h1 h2; omega
  | succ n ih =>
    intro c met qu h1 h2 Z
    refine pk_le 64 c (fun h => ?_) (fun h => And.intro (vp_in_nI h (by decide)) ?_)
    · have e : c = 64 := by omega
      subst e
      exact H met qu
    · rw [nI_clamp (n := c) (by omega)]
      by_cases m : met c = 0
      · have nm : ¬ ft_SM a_heights c c := fun q => (Z c h).mpr q m
        refine br_t m (fx_summitAt h nm Z (fun x y q px py a => ?_) (fun k met' qu' Z' => ?_) (fun k met' qu' Z' => ?_))
        · obtain ⟨s, hs, w⟩ := q
          refine ⟨s, hs, ft_cn_e w (ft_adj_c a) ?_⟩
          have e1 : (a_heights x).toInt = (a_heights s).toInt := ft_cn_P w
          have e2 : (a_heights x).toInt = (a_heights c).toInt := px
          have e3 : (a_heights y).toInt = (a_heights c).toInt := py
          show (a_heights y).toInt = (a_heights s).toInt
          omega
        · have i := ih (c + 1) met' qu' (by omega) (by omega) (fun x hx => by rw [Z' x hx, ft_SM_s])
          rw [ft_cnt_t (P := ft_sm a_heights) ⟨nm, k⟩] at i
          exact br_f (by decide) (nm_r (nI_1 _) (nm_r (nI_1 c) i))
        · have i := ih (c + 1) met' qu' (by omega) (by omega) (fun x hx => by rw [Z' x hx, ft_SM_s])
          rw [ft_cnt_f (P := ft_sm a_heights) (fun q => q.2 k)] at i
          exact br_t rfl (nm_r (nI_1 c) i)
      · have mm : ft_SM a_heights c c := (Z c h).mp m
        have i := ih (c + 1) met qu (by omega) (by omega) (fun x hx => by
          rw [Z x hx, ft_SM_s]
          refine ⟨Or.inl, fun q => q.elim id (fun z => ?_)⟩
          obtain ⟨s, hs, w⟩ := mm
          have e1 : (a_heights c).toInt = (a_heights s).toInt := ft_cn_P w
          exact ⟨s, hs, ft_cn_t w (ft_cn_m (fun y q => Eq.trans q e1) z)⟩)
        rw [ft_cnt_f (P := ft_sm a_heights) (fun q => q.1 mm)] at i
        exact br_f m (nm_r (nI_1 c) i)
theorem fx_summits {post : Int32 → SX → Prop} (H : ∀ met qu : Nat → Int32, post (nI (ft_cnt (ft_sm a_heights) 64)) (f_ready, f_heap, a_heights, a_levels, a_heapCell, met, a_order, a_leader, a_top, a_active, qu)) : wpX_summits post (f_ready, f_heap, a_heights, a_levels, a_heapCell, a_met, a_order, a_leader, a_top, a_active, a_queue) := by
  unfold wpX_summits
  dsimp only
  exact fx_forget (fun met z => ⟨65, fx_su8 H 65 0 met a_queue (by omega) (by omega) (fun x hx => ⟨fun q => absurd (z x hx) q, fun ⟨s, hs, _⟩ => absurd hs (Nat.not_lt_zero s)⟩)⟩)
end
def ft_sum (f : Nat → Int32) : Nat → Int32
  | 0 => 0
  | n + 1 => ft_sum f n + f n
theorem ft_sum_c {f g : Nat → Int32} : ∀ n, (∀ x, x < n → f x = g x) → ft_sum f n = ft_sum g n := by
  intro n
  induction n with
  | zero => intro _; rfl
  | succ n ih =>
    intro h
    show ft_sum f n + f n = ft_sum g n + g n
    rw [ih (fun x hx => h x (by omega)), h n (by omega)]
section
variable {f_ready f_heap : Int32} {a_heights a_levels a_heapCell a_met a_order a_leader a_top a_active a_queue : Nat → Int32}
theorem fx_vo8 {post : Int32 → SX → Prop} (H : post (ft_sum (fun c => a_levels c - a_heights c) 64) (f_ready, f_heap, a_heights, a_levels, a_heapCell, a_met, a_order, a_leader, a_top, a_active, a_queue)) :
    ∀ (n c : Nat), c ≤ 64 → 64 < c + n → wX_volume_8 post f_ready f_heap a_heights a_levels a_heapCell a_met a_order a_leader a_top a_active a_queue n (ft_sum (fun c => a_levels c - a_heights c) c) (nI c) := by
  intro n
  induction n with
  | zero => intro c h1 h2; omega
  | succ n ih =>
    intro c h1 h2
    refine pk_le 64 c (fun h => ?_) (fun h => And.intro (vp_in_nI h (by decide)) (And.intro (vp_in_nI h (by decide)) (nm_r (e' := ft_sum (fun c => a_levels c - a_heights c) (c + 1)) ?_ (nm_r (nI_1 c) (ih (c + 1) (by omega) (by omega))))))
    · have e : c = 64 := by omega
      subst e
      exact H
    · rw [nI_clamp (by omega)]
      rfl
theorem fx_volume {post : Int32 → SX → Prop} (hh0 : ∀ x, 0 ≤ (a_heights x).toInt) (hh : ∀ x, (a_heights x).toInt ≤ 99)
    (hr : f_ready ≠ 0 → ft_seal (fun x => (a_heights x).toInt) ft_bd (fun x => (a_levels x).toInt))
    (H : ∀ (fr fh : Int32) (lv hc met : Nat → Int32), ft_seal (fun x => (a_heights x).toInt) ft_bd (fun x => (lv x).toInt) → post (ft_sum (fun c => lv c - a_heights c) 64) (fr, fh, a_heights, lv, hc, met, a_order, a_leader, a_top, a_active, a_queue)) :
    wpX_volume post (f_ready, f_heap, a_heights, a_levels, a_heapCell, a_met, a_order, a_leader, a_top, a_active, a_queue) := by
  unfold wpX_volume
  dsimp only
  exact fx_prepare hh0 hh hr (fun fr fh lv hc met s => ⟨65, fx_vo8 (H fr fh lv hc met s) 65 0 (by omega) (by omega)⟩)
theorem fx_level {post : Int32 → SX → Prop} {a : Nat} (ha : a < 64) (hh0 : ∀ x, 0 ≤ (a_heights x).toInt) (hh : ∀ x, (a_heights x).toInt ≤ 99)
    (hr : f_ready ≠ 0 → ft_seal (fun x => (a_heights x).toInt) ft_bd (fun x => (a_levels x).toInt))
    (H : ∀ (fr fh : Int32) (lv hc met : Nat → Int32), ft_seal (fun x => (a_heights x).toInt) ft_bd (fun x => (lv x).toInt) → post (lv a) (fr, fh, a_heights, lv, hc, met, a_order, a_leader, a_top, a_active, a_queue)) :
    wpX_level post (f_ready, f_heap, a_heights, a_levels, a_heapCell, a_met, a_order, a_leader, a_top, a_active, a_queue) (nI a) := by
  unfold wpX_level
  dsimp only
  refine fx_bad_ok ha (br_t rfl (fx_prepare hh0 hh hr (fun fr fh lv hc met s => And.intro (vp_in_nI ha (by decide)) ?_)))
  rw [nI_clamp (n := a) (by omega)]
  exact H fr fh lv hc met s
end
theorem fy_vo8 {post : Int32 → SY → Prop} {ah m : Nat → Int32} (H : post (ft_sum (fun c => m c - ah c) 64) (ah, m)) :
    ∀ (n c : Nat), c ≤ 64 → 64 < c + n → wY_volume_8 post ah m n (ft_sum (fun c => m c - ah c) c) (nI c) := by
  intro n
  induction n with
  | zero => intro c h1 h2; omega
  | succ n ih =>
    intro c h1 h2
    refine pk_le 64 c (fun h => ?_) (fun h => And.intro (vp_in_nI h (by decide)) (And.intro (vp_in_nI h (by decide)) (nm_r (e' := ft_sum (fun c => m c - ah c) (c + 1)) ?_ (nm_r (nI_1 c) (ih (c + 1) (by omega) (by omega))))))
    · have e : c = 64 := by omega
      subst e
      exact H
    · rw [nI_clamp (by omega)]
      show _ = ft_sum (fun c => m c - ah c) c + (m c - ah c)
      rw [Int32.sub_eq_add_neg, Int32.sub_eq_add_neg, Int32.add_assoc]
theorem fy_volume {post : Int32 → SY → Prop} {ah m : Nat → Int32} (H : ∀ m : Nat → Int32, ft_seal (fun x => (ah x).toInt) ft_bd (fun x => (m x).toInt) → post (ft_sum (fun c => m c - ah c) 64) (ah, m)) : wpY_volume post (ah, m) := by
  unfold wpY_volume
  dsimp only
  exact fy_levels (fun m' s => ⟨65, fy_vo8 (H m' s) 65 0 (by omega) (by omega)⟩)
theorem fy_level {post : Int32 → SY → Prop} {ah m : Nat → Int32} {a : Nat} (ha : a < 64) (H : ∀ m : Nat → Int32, ft_seal (fun x => (ah x).toInt) ft_bd (fun x => (m x).toInt) → post (m a) (ah, m)) : wpY_level post (ah, m) (nI a) := by
  unfold wpY_level
  dsimp only
  refine fy_bad_ok ha (br_t rfl (fy_levels (fun m' s => And.intro (vp_in_nI ha (by decide)) ?_)))
  rw [nI_clamp (n := a) (by omega)]
  exact H m' s
theorem fy_pass {post : Int32 → SY → Prop} {ah m : Nat → Int32} {a b : Nat} (ha : a < 64) (hb : b < 64) (H : ∀ m : Nat → Int32, ft_seal (fun x => (ah x).toInt) (fun x => x = a) (fun x => (m x).toInt) → post (m b) (ah, m)) : wpY_pass post (ah, m) (nI a) (nI b) := by
  unfold wpY_pass
  dsimp only
  refine fy_bad_ok ha (br_t rfl (fy_bad_ok hb (br_t rfl (fy_passes ha (fun m' s => And.intro (vp_in_nI hb (by decide)) ?_)))))
  rw [nI_clamp (n := b) (by omega)]
  exact H m' s
end
section
/-! shift and pattern -/
def ft_g (w v : Int32) : Int32 := if v.toInt + w.toInt < 0 then 0 else if 99 < v.toInt + w.toInt then 99 else v + w
theorem ft_g_i {w v : Int32} : (ft_g w v).toInt = if v.toInt + w.toInt < 0 then 0 else if 99 < v.toInt + w.toInt then 99 else v.toInt + w.toInt := by
  unfold ft_g
  by_cases h1 : v.toInt + w.toInt < 0
  · rw [if_pos h1, if_pos h1]; exact ft_i0
  · rw [if_neg h1, if_neg h1]
    by_cases h2 : 99 < v.toInt + w.toInt
    · rw [if_pos h2, if_pos h2]; exact ft_i99
    · rw [if_neg h2, if_neg h2, Int32.toInt_add]
      exact Int.bmod_eq_of_le (by omega) (by omega)
theorem ft_g_r {w v : Int32} : 0 ≤ (ft_g w v).toInt ∧ (ft_g w v).toInt ≤ 99 := by
  rw [ft_g_i]
  split
  · omega
  · split <;> omega
theorem ft_clamp {v w b r : Int} (h0 : 0 ≤ v) (h9 : v ≤ 99) (hb : b = if w < -99 then -99 else if 99 < w then 99 else w) (hr : r = if v + b < 0 then 0 else if 99 < v + b then 99 else v + b) :
    r = if v + w < 0 then 0 else if 99 < v + w then 99 else v + w := by
  by_cases a1 : w < -99
  · rw [if_pos a1] at hb
    rw [if_pos (by omega)]
    by_cases b1 : v + b < 0
    · rw [if_pos b1] at hr; exact hr
    · rw [if_neg b1] at hr
      rw [if_neg (by omega)] at hr
      omega
  · rw [if_neg a1] at hb
    by_cases a2 : 99 < w
    · rw [if_pos a2] at hb
      rw [if_neg (by omega), if_pos (by omega)]
      rw [if_neg (by omega)] at hr
      by_cases b1 : 99 < v + b
      · rw [if_pos b1] at hr; exact hr
      · rw [if_neg b1] at hr; omega
    · rw [if_neg a2] at hb
      rw [hb] at hr
      exact hr
noncomputable def ft_hs (R : Nat → Prop) (g : Int32 → Int32) (ah : Nat → Int32) (i : Nat) : Nat → Int32 := fun x => @ite Int32 (x < i ∧ R x) (Classical.propDecidable _) (g (ah x)) (ah x)
theorem ft_hs_t {R : Nat → Prop} {g : Int32 → Int32} {ah : Nat → Int32} {i x : Nat} (h : x < i ∧ R x) : ft_hs R g ah i x = g (ah x) := if_pos h
theorem ft_hs_f {R : Nat → Prop} {g : Int32 → Int32} {ah : Nat → Int32} {i x : Nat} (h : ¬ (x < i ∧ R x)) : ft_hs R g ah i x = ah x := if_neg h
theorem ft_hs_i {R : Nat → Prop} {g : Int32 → Int32} {ah : Nat → Int32} {i : Nat} : ft_hs R g ah i i = ah i := ft_hs_f (fun q => absurd q.1 (Nat.lt_irrefl i))
theorem ft_hs_s {R : Nat → Prop} {g : Int32 → Int32} {ah : Nat → Int32} {i : Nat} (h : R i) : upd (ft_hs R g ah i) i (g (ah i)) = ft_hs R g ah (i + 1) := by
  funext x
  by_cases e : x = i
  · rw [e, pk_us, ft_hs_t ⟨by omega, h⟩]
  · rw [pk_un e]
    by_cases q : x < i ∧ R x
    · rw [ft_hs_t q, ft_hs_t ⟨by omega, q.2⟩]
    · rw [ft_hs_f q, ft_hs_f (fun w => q ⟨by omega, w.2⟩)]
theorem ft_hs_g {R : Nat → Prop} {g : Int32 → Int32} {ah : Nat → Int32} {i j : Nat} (h : ∀ x, R x → (x < i ↔ x < j)) : ft_hs R g ah i = ft_hs R g ah j := by
  funext x
  by_cases q : x < i ∧ R x
  · rw [ft_hs_t q, ft_hs_t ⟨(h x q.2).mp q.1, q.2⟩]
  · rw [ft_hs_f q, ft_hs_f (fun w => q ⟨(h x w.2).mpr w.1, w.2⟩)]
theorem ft_cnt_ext {P : Nat → Prop} : ∀ d i, (∀ x, i ≤ x → x < i + d → ¬ P x) → ft_cnt P (i + d) = ft_cnt P i := by
  intro d
  induction d with
  | zero => intro i _; rfl
  | succ d ih =>
    intro i h
    show ft_cnt P (i + d + 1) = _
    rw [ft_cnt_f (h (i + d) (by omega) (by omega))]
    exact ih i (fun x h1 h2 => h x h1 (by omega))
theorem ft_cnt_g {P : Nat → Prop} {i j : Nat} (h : ∀ x, P x → (x < i ↔ x < j)) : ft_cnt P i = ft_cnt P j := by
  by_cases q : i ≤ j
  · obtain ⟨d, rfl⟩ : ∃ d, j = i + d := ⟨j - i, by omega⟩
    exact (ft_cnt_ext d i (fun x h1 h2 p => by have := h x p; omega)).symm
  · obtain ⟨d, rfl⟩ : ∃ d, i = j + d := ⟨i - j, by omega⟩
    exact ft_cnt_ext d j (fun x h1 h2 p => by have := h x p; omega)
def ft_rc (a b x : Nat) : Prop := min (a / 8) (b / 8) ≤ x / 8 ∧ x / 8 ≤ max (a / 8) (b / 8) ∧ min (a % 8) (b % 8) ≤ x % 8 ∧ x % 8 ≤ max (a % 8) (b % 8)
def ft_ch (R : Nat → Prop) (g : Int32 → Int32) (ah : Nat → Int32) (x : Nat) : Prop := R x ∧ g (ah x) ≠ ah x
theorem fy_between {post : Int32 → Prop} {ah m : Nat → Int32} {x p q : Nat} (hx : x < 64) (hp : p < 64) (hq : q < 64) (H1 : min p q ≤ x → x ≤ max p q → post 1) (H0 : ¬ (min p q ≤ x ∧ x ≤ max p q) → post 0) : wpY_between post (ah, m) (nI x) (nI p) (nI q) := by
  unfold wpY_between
  dsimp only
  refine fy_least (fun r hr => ft_bt (fun g => H0 (fun w => ?_)) (fun g => fy_most (fun s hs => ft_bt (fun k => H0 (fun w => ?_)) (fun k => H1 ?_ ?_))))
  all_goals (rw [nI_toInt (n := p) (by omega), nI_toInt (n := q) (by omega)] at hr; rw [nI_toInt (n := x) (by omega)] at g)
  · omega
  · rw [nI_toInt (n := p) (by omega), nI_toInt (n := q) (by omega)] at hs
    rw [nI_toInt (n := x) (by omega)] at k
    omega
  · rw [nI_toInt (n := p) (by omega), nI_toInt (n := q) (by omega)] at hs
    rw [nI_toInt (n := x) (by omega)] at k
    omega
  · rw [nI_toInt (n := p) (by omega), nI_toInt (n := q) (by omega)] at hs
    rw [nI_toInt (n := x) (by omega)] at k
    omega
theorem fy_sh112 {post : Int32 → SY → Prop} {J : Int32 → Int32 → (Nat → Int32) → (Nat → Int32) → Prop} {x1 x2 x3 z : Int32} {R : Nat → Prop} {g : Int32 → Int32} {ah m : Nat → Int32} {i : Nat} (hi : i < 64) (Ri : R i) (ez : z = g (ah i))
    (HJ : J (nI (ft_cnt (ft_ch R g ah) (i + 1))) (nI (i + 1)) (ft_hs R g ah (i + 1)) m) : wY_shift_112 post J x1 x2 x3 (nI (ft_cnt (ft_ch R g ah) i)) (nI i) z (ft_hs R g ah i) m := by
  subst ez
  refine And.intro (vp_in_nI hi (by decide)) ?_
  rw [nI_clamp (n := i) (by omega), ft_hs_i]
  by_cases e : g (ah i) = ah i
  · rw [ft_cnt_f (P := ft_ch R g ah) (fun q => q.2 e)] at HJ
    exact br_t e (And.intro (vp_in_nI hi (by decide)) (nm_r (ft_hs_s Ri) (nm_r (nI_1 i) HJ)))
  · rw [ft_cnt_t (P := ft_ch R g ah) ⟨Ri, e⟩] at HJ
    exact br_f e (nm_r (nI_1 _) (And.intro (vp_in_nI hi (by decide)) (nm_r (ft_hs_s Ri) (nm_r (nI_1 i) HJ))))
theorem fy_sh24 {post : Int32 → SY → Prop} {ah m : Nat → Int32} {a b : Nat} {w : Int32} (ha : a < 64) (hb : b < 64) (h0 : ∀ x, 0 ≤ (ah x).toInt) (h9 : ∀ x, (ah x).toInt ≤ 99)
    (H : post (nI (ft_cnt (ft_ch (ft_rc a b) (ft_g w) ah) 64)) (ft_hs (ft_rc a b) (ft_g w) ah 64, m)) :
    ∀ (n i : Nat), i ≤ 64 → 64 < i + n → wY_shift_24 post (nI a) (nI b) w n (nI (ft_cnt (ft_ch (ft_rc a b) (ft_g w) ah) i)) (nI i) (ft_hs (ft_rc a b) (ft_g w) ah i) m := by
  intro n
  induction n with
  | zero => intro i h1 h2; omega
  | succ n ih =>
    intro i h1 h2
    refine pk_le 64 i (fun h => ?_) (fun h => And.intro (by decide) (And.intro (by decide) (And.intro (by decide) ?_)))
    · have e : i = 64 := by omega
      subst e
      exact H
    · have ed : ∀ x : Nat, x < 64 → nI x / 8 = nI (x / 8) := fun x hx => pk_div (a := x) (d := 8) (by omega) (by omega) (by omega)
      have er : ∀ x : Nat, x < 64 → nI x - nI (x / 8) * 8 = nI (x % 8) := fun x hx => by
        have z := pk_rem (a := x) (d := 8) (by omega) (by omega) (by omega)
        rw [show nI x / nI 8 = nI (x / 8) from ed x hx] at z
        exact z
      have nxt : ¬ ft_rc a b i → wY_shift_24 post (nI a) (nI b) w n (nI (ft_cnt (ft_ch (ft_rc a b) (ft_g w) ah) i)) (nI (i + 1)) (ft_hs (ft_rc a b) (ft_g w) ah i) m := fun nr => by
        have k := ih (i + 1) (by omega) (by omega)
        rw [ft_cnt_f (P := ft_ch (ft_rc a b) (ft_g w) ah) (fun q => nr q.1), ft_hs_g (i := i + 1) (j := i) (fun x q => ⟨fun l => by
          have : x ≠ i := fun e => nr (e ▸ q)
          omega, fun l => by omega⟩)] at k
        exact k
      rw [ed i h, ed a ha, ed b hb, er i h, er a ha, er b hb]
      refine fy_between (by omega) (by omega) (by omega) (fun g1 g2 => br_f (by decide) (And.intro (by decide) (And.intro (by decide) (And.intro (by decide) (fy_between (by omega) (by omega) (by omega) (fun g3 g4 => br_f (by decide) (And.intro (vp_in_nI h (by decide)) ?_)) (fun g => br_t rfl (nm_r (nI_1 i) (nxt (fun q => g ⟨q.2.2.1, q.2.2.2⟩))))))))) (fun g => br_t rfl (nm_r (nI_1 i) (nxt (fun q => g ⟨q.1, q.2.1⟩))))
      have Ri : ft_rc a b i := ⟨g1, g2, g3, g4⟩
      rw [nI_clamp (n := i) (by omega), ft_hs_i]
      refine nm_e ?_
      have v0 := h0 i
      have v9 := h9 i
      have w0 := w.le_toInt
      have w9 := w.toInt_lt
      have s1 : ((ah i).toInt64 + w.toInt64).toInt = (ah i).toInt + w.toInt := by
        rw [Int64.toInt_add, Int32.toInt_toInt64, Int32.toInt_toInt64]
        exact Int.bmod_eq_of_le (by omega) (by omega)
      have z0 : (0 : Int64).toInt = 0 := by decide
      have z9 : (99 : Int64).toInt = 99 := by decide
      have k := ih (i + 1) (by omega) (by omega)
      by_cases q0 : (0 : Int64) ≤ (ah i).toInt64 + w.toInt64
      · have q0' := q0
        rw [Int64.le_iff_toInt_le, s1, z0] at q0'
        by_cases q9 : (ah i).toInt64 + w.toInt64 ≤ (99 : Int64)
        · have q9' := q9
          rw [Int64.le_iff_toInt_le, s1, z9] at q9'
          refine br_t q0 (br_t q9 (fy_sh112 h Ri (Int32.toInt_inj.mp ?_) k))
          rw [ft_g_i, if_neg (by omega), if_neg (by omega), Int64.toInt_toInt32, s1]
          exact Int.bmod_eq_of_le (by omega) (by omega)
        · have q9' := q9
          rw [Int64.le_iff_toInt_le, s1, z9] at q9'
          refine br_t q0 (br_f q9 (fy_sh112 h Ri (Int32.toInt_inj.mp ?_) k))
          rw [ft_g_i, if_neg (by omega), if_pos (by omega)]
          exact ft_i99
      · have q0' := q0
        rw [Int64.le_iff_toInt_le, s1, z0] at q0'
        refine br_f q0 (fy_sh112 h Ri (Int32.toInt_inj.mp ?_) k)
        rw [ft_g_i, if_pos (by omega)]
        exact ft_i0
theorem fy_shift {post : Int32 → SY → Prop} {ah m : Nat → Int32} {a b : Nat} {w : Int32} (ha : a < 64) (hb : b < 64) (h0 : ∀ x, 0 ≤ (ah x).toInt) (h9 : ∀ x, (ah x).toInt ≤ 99)
    (H : post (nI (ft_cnt (ft_ch (ft_rc a b) (ft_g w) ah) 64)) (ft_hs (ft_rc a b) (ft_g w) ah 64, m)) : wpY_shift post (ah, m) (nI a) (nI b) w := by
  unfold wpY_shift
  dsimp only
  refine fy_bad_ok ha (br_t rfl (fy_bad_ok hb (br_t rfl ⟨65, ?_⟩)))
  have k := fy_sh24 ha hb h0 h9 H 65 0 (by omega) (by omega)
  have e : ft_hs (ft_rc a b) (ft_g w) ah 0 = ah := by
    funext x
    exact ft_hs_f (fun q => absurd q.1 (Nat.not_lt_zero x))
  rw [e] at k
  exact k
section
variable {f_ready f_heap : Int32} {a_heights a_levels a_heapCell a_met a_order a_leader a_top a_active a_queue : Nat → Int32}
theorem fx_sh140 {post : Int32 → SX → Prop} {J : Int32 → Int32 → (Nat → Int32) → (Nat → Int32) → (Nat → Int32) → (Nat → Int32) → (Nat → Int32) → (Nat → Int32) → (Nat → Int32) → (Nat → Int32) → (Nat → Int32) → Prop}
    {y : Int32} {R : Nat → Prop} {g : Int32 → Int32} {x6 : Int32} {c0 c1 r : Nat} (hr : r < 8) (hc1 : c1 < 8)
    (hg : ∀ v r : Int32, (∃ x, v = a_heights x) → r.toInt = (if (v + y).toInt < (0 : Int32).toInt then (0 : Int32).toInt else if (99 : Int32).toInt < (v + y).toInt then (99 : Int32).toInt else (v + y).toInt) → r = g v)
    (hR : ∀ c, c0 ≤ c → c ≤ c1 → R (r * 8 + c))
    (HJ : J (nI (ft_cnt (ft_ch R g a_heights) (r * 8 + (c1 + 1)))) (nI (r + 1)) (ft_hs R g a_heights (r * 8 + (c1 + 1))) a_levels a_heapCell a_met a_order a_leader a_top a_active a_queue) :
    ∀ (n c : Nat), c0 ≤ c → c ≤ c1 + 1 → c1 + 1 < c + n → wX_shift_140 post J y x6 (nI c0) (nI c1) (nI r) f_ready f_heap n (nI (ft_cnt (ft_ch R g a_heights) (r * 8 + c))) (nI c) (ft_hs R g a_heights (r * 8 + c)) a_levels a_heapCell a_met a_order a_leader a_top a_active a_queue := by
  intro n
  induction n with
  | zero => intro c h1 h2; omega
  | succ n ih =>
    intro c h1 h2 h3
    have e12 : nI r * 8 + nI c = nI (r * 8 + c) := by
      rw [show nI r * 8 = nI (r * 8) from pk_mul r 8, nI_add]
    have hi : r * 8 + c < 72 := by omega
    refine pk_lt c1 c (fun h => nm_r (nI_1 r) ?_) (fun h => nm_r e12 (And.intro (vp_in_nI (by omega) (by decide)) ?_))
    · have e : c = c1 + 1 := by omega
      subst e
      exact HJ
    · have Ri := hR c h1 h
      have k := ih (c + 1) (by omega) (by omega) (by omega)
      rw [nI_clamp (n := r * 8 + c) (by omega), ft_hs_i]
      refine fx_within (fun q hq => And.intro (vp_in_nI (by omega) (by decide)) ?_)
      have eq := hg _ q ⟨_, rfl⟩ hq
      subst eq
      by_cases e : g (a_heights (r * 8 + c)) = a_heights (r * 8 + c)
      · rw [show r * 8 + (c + 1) = r * 8 + c + 1 from rfl, ft_cnt_f (P := ft_ch R g a_heights) (fun q => q.2 e)] at k
        exact br_t e (And.intro (vp_in_nI (by omega) (by decide)) (nm_r (ft_hs_s Ri) (nm_r (nI_1 c) k)))
      · rw [show r * 8 + (c + 1) = r * 8 + c + 1 from rfl, ft_cnt_t (P := ft_ch R g a_heights) ⟨Ri, e⟩] at k
        exact br_f e (nm_r (nI_1 _) (And.intro (vp_in_nI (by omega) (by decide)) (nm_r (ft_hs_s Ri) (nm_r (nI_1 c) k))))
theorem fx_sh129 {post : Int32 → SX → Prop} {y : Int32} {g : Int32 → Int32} {a b : Nat} (ha : a < 64) (hb : b < 64)
    (hg : ∀ v r : Int32, (∃ x, v = a_heights x) → r.toInt = (if (v + y).toInt < (0 : Int32).toInt then (0 : Int32).toInt else if (99 : Int32).toInt < (v + y).toInt then (99 : Int32).toInt else (v + y).toInt) → r = g v)
    (H : post (nI (ft_cnt (ft_ch (ft_rc a b) g a_heights) 64)) (0, f_heap, (ft_hs (ft_rc a b) g a_heights 64), a_levels, a_heapCell, a_met, a_order, a_leader, a_top, a_active, a_queue)) :
    ∀ (n r : Nat), min (a / 8) (b / 8) ≤ r → r ≤ max (a / 8) (b / 8) + 1 → max (a / 8) (b / 8) + 1 < r + n →
      wX_shift_129 post y (nI (max (a / 8) (b / 8))) (nI (min (a % 8) (b % 8))) (nI (max (a % 8) (b % 8))) f_ready f_heap n (nI (ft_cnt (ft_ch (ft_rc a b) g a_heights) (r * 8 + min (a % 8) (b % 8)))) (nI r) (ft_hs (ft_rc a b) g a_heights (r * 8 + min (a % 8) (b % 8))) a_levels a_heapCell a_met a_order a_leader a_top a_active a_queue := by
  intro n
  induction n with
  | zero => intro r h1 h2; omega
  | succ n ih =>
    intro r h1 h2 h3
    refine pk_lt (max (a / 8) (b / 8)) r (fun h => ?_) (fun h => ⟨9, ?_⟩)
    · have z : ∀ x, ft_rc a b x → (x < 64 ↔ x < r * 8 + min (a % 8) (b % 8)) := fun x q => by
        unfold ft_rc at q
        omega
      have k := H
      rw [ft_cnt_g (P := ft_ch (ft_rc a b) g a_heights) (fun x q => z x q.1), ft_hs_g z] at k
      exact k
    · refine fx_sh140 (by omega) (by omega) hg (fun c k1 k2 => ?_) ?_ 9 (min (a % 8) (b % 8)) (Nat.le_refl _) (by omega) (by omega)
      · unfold ft_rc
        omega
      · have z : ∀ x, ft_rc a b x → (x < r * 8 + (max (a % 8) (b % 8) + 1) ↔ x < (r + 1) * 8 + min (a % 8) (b % 8)) := fun x q => by
          unfold ft_rc at q
          omega
        have k := ih (r + 1) (by omega) (by omega) (by omega)
        rw [← ft_cnt_g (P := ft_ch (ft_rc a b) g a_heights) (fun x q => z x q.1), ← ft_hs_g z] at k
        exact k
theorem fx_shift {post : Int32 → SX → Prop} {a b : Nat} {w : Int32} (ha : a < 64) (hb : b < 64) (h0 : ∀ x, 0 ≤ (a_heights x).toInt) (h9 : ∀ x, (a_heights x).toInt ≤ 99)
    (H : post (nI (ft_cnt (ft_ch (ft_rc a b) (ft_g w) a_heights) 64)) (0, f_heap, (ft_hs (ft_rc a b) (ft_g w) a_heights 64), a_levels, a_heapCell, a_met, a_order, a_leader, a_top, a_active, a_queue)) : wpX_shift post (f_ready, f_heap, a_heights, a_levels, a_heapCell, a_met, a_order, a_leader, a_top, a_active, a_queue) (nI a) (nI b) w := by
  have ed : ∀ x : Nat, x < 64 → nI x / 8 = nI (x / 8) := fun x hx => pk_div (a := x) (d := 8) (by omega) (by omega) (by omega)
  have er : ∀ x : Nat, x < 64 → nI x - nI (x / 8) * 8 = nI (x % 8) := fun x hx => by
    have z := pk_rem (a := x) (d := 8) (by omega) (by omega) (by omega)
    rw [show nI x / nI 8 = nI (x / 8) from ed x hx] at z
    exact z
  unfold wpX_shift
  dsimp only
  refine fx_bad_ok ha (br_t rfl (fx_bad_ok hb (br_t rfl (fx_within (fun y hy => And.intro (by decide) (And.intro (by decide) ?_))))))
  rw [ft_im99, ft_i99] at hy
  have hg : ∀ v r : Int32, (∃ x, v = a_heights x) → r.toInt = (if (v + y).toInt < (0 : Int32).toInt then (0 : Int32).toInt else if (99 : Int32).toInt < (v + y).toInt then (99 : Int32).toInt else (v + y).toInt) → r = ft_g w v := by
    rintro v r ⟨x, ev⟩ hr
    have v0 := h0 x
    have v9 := h9 x
    rw [← ev] at v0 v9
    apply Int32.toInt_inj.mp
    have yb : -99 ≤ y.toInt ∧ y.toInt ≤ 99 := by
      rw [hy]
      split
      · omega
      · split <;> omega
    have s1 : (v + y).toInt = v.toInt + y.toInt := by
      rw [Int32.toInt_add]
      exact Int.bmod_eq_of_le (by omega) (by omega)
    rw [s1, ft_i0, ft_i99] at hr
    rw [ft_g_i]
    exact ft_clamp v0 v9 hy hr
  have fin : ∃ n129 : Nat, wX_shift_129 post y (nI (max (a / 8) (b / 8))) (nI (min (a % 8) (b % 8))) (nI (max (a % 8) (b % 8))) f_ready f_heap n129 0 (nI (min (a / 8) (b / 8))) a_heights a_levels a_heapCell a_met a_order a_leader a_top a_active a_queue := by
    refine ⟨10, ?_⟩
    have k := fx_sh129 (f_ready := f_ready) (f_heap := f_heap) (a_levels := a_levels) (a_heapCell := a_heapCell) (a_met := a_met) (a_order := a_order) (a_leader := a_leader) (a_top := a_top) (a_active := a_active) (a_queue := a_queue) ha hb hg H 10 (min (a / 8) (b / 8)) (Nat.le_refl _) (by omega) (by omega)
    have z : ∀ x, ft_rc a b x → (x < min (a / 8) (b / 8) * 8 + min (a % 8) (b % 8) ↔ x < 0) := fun x q => by
      unfold ft_rc at q
      omega
    rw [ft_cnt_g (P := ft_ch (ft_rc a b) (ft_g w) a_heights) (fun x q => z x q.1), ft_hs_g z] at k
    have e : ft_hs (ft_rc a b) (ft_g w) a_heights 0 = a_heights := by
      funext x
      exact ft_hs_f (fun q => absurd q.1 (Nat.not_lt_zero x))
    rw [e] at k
    exact k
  have s96 : wX_shift_96 post (nI a) (nI b) y (nI (min (a / 8) (b / 8))) (nI (max (a / 8) (b / 8))) (nI (min (a % 8) (b % 8))) f_ready f_heap a_heights a_levels a_heapCell a_met a_order a_leader a_top a_active a_queue := by
    unfold wX_shift_96
    rw [ed a ha, ed b hb, er a ha, er b hb]
    refine And.intro (by decide) (And.intro (by decide) (pk_le (b % 8) (a % 8) (fun g => And.intro (by decide) (nm_e ?_)) (fun g => And.intro (by decide) (nm_e ?_))))
    · rw [show max (a % 8) (b % 8) = a % 8 by omega] at fin
      exact fin
    · rw [show max (a % 8) (b % 8) = b % 8 by omega] at fin
      exact fin
  have s72 : wX_shift_72 post (nI a) (nI b) y (nI (min (a / 8) (b / 8))) (nI (max (a / 8) (b / 8))) f_ready f_heap a_heights a_levels a_heapCell a_met a_order a_leader a_top a_active a_queue := by
    unfold wX_shift_72
    rw [ed a ha, ed b hb, er a ha, er b hb]
    refine And.intro (by decide) (And.intro (by decide) (pk_le (b % 8) (a % 8) (fun g => And.intro (by decide) ?_) (fun g => And.intro (by decide) ?_)))
    · rw [show min (a % 8) (b % 8) = b % 8 by omega] at s96
      exact s96
    · rw [show min (a % 8) (b % 8) = a % 8 by omega] at s96
      exact s96
  have s48 : wX_shift_48 post (nI a) (nI b) y (nI (min (a / 8) (b / 8))) f_ready f_heap a_heights a_levels a_heapCell a_met a_order a_leader a_top a_active a_queue := by
    unfold wX_shift_48
    rw [ed a ha, ed b hb]
    refine And.intro (by decide) (And.intro (by decide) (pk_le (b / 8) (a / 8) (fun g => And.intro (by decide) ?_) (fun g => And.intro (by decide) ?_)))
    · rw [show max (a / 8) (b / 8) = a / 8 by omega] at s72
      exact s72
    · rw [show max (a / 8) (b / 8) = b / 8 by omega] at s72
      exact s72
  rw [ed a ha, ed b hb]
  refine pk_le (b / 8) (a / 8) (fun g => And.intro (by decide) ?_) (fun g => And.intro (by decide) ?_)
  · rw [show min (a / 8) (b / 8) = b / 8 by omega] at s48
    exact s48
  · rw [show min (a / 8) (b / 8) = a / 8 by omega] at s48
    exact s48
end
/-! pattern -/
def ft_pt (g : Nat → Int32) (ah : Nat → Int32) : Nat → (Nat → Int32)
  | 0 => ah
  | n + 1 => upd (ft_pt g ah n) n (g n)
theorem ft_pt_r {g ah : Nat → Int32} {Q : Int32 → Prop} (hg : ∀ x, Q (g x)) (ha : ∀ x, Q (ah x)) : ∀ n x, Q (ft_pt g ah n x) := by
  intro n
  induction n with
  | zero => exact ha
  | succ n ih =>
    intro x
    show Q (upd (ft_pt g ah n) n (g n) x)
    by_cases e : x = n
    · rw [e, pk_us]; exact hg n
    · rw [pk_un e]; exact ih x
section
variable {f_ready f_heap : Int32} {a_heights a_levels a_heapCell a_met a_order a_leader a_top a_active a_queue : Nat → Int32}
theorem fx_pt2 {post : SX → Prop} {f s : Int32} (H : post (0, f_heap, (ft_pt (fun i => ((nI i * f) + s) &&& 63) a_heights 64), a_levels, a_heapCell, a_met, a_order, a_leader, a_top, a_active, a_queue)) :
    ∀ (n c : Nat), c ≤ 64 → 64 < c + n → wX_pattern_2 post f s f_ready f_heap n (nI c) (ft_pt (fun i => ((nI i * f) + s) &&& 63) a_heights c) a_levels a_heapCell a_met a_order a_leader a_top a_active a_queue := by
  intro n
  induction n with
  | zero => intro c h1 h2; omega
  | succ n ih =>
    intro c h1 h2
    refine pk_le 64 c (fun h => ?_) (fun h => And.intro (vp_in_nI h (by decide)) (nm_r (ft_up h) (nm_r (nI_1 c) (ih (c + 1) (by omega) (by omega)))))
    have e : c = 64 := by omega
    subst e
    exact H
theorem fx_pattern {post : SX → Prop} {f s : Int32} (H : post (0, f_heap, (ft_pt (fun i => ((nI i * f) + s) &&& 63) a_heights 64), a_levels, a_heapCell, a_met, a_order, a_leader, a_top, a_active, a_queue)) : wpX_pattern post (f_ready, f_heap, a_heights, a_levels, a_heapCell, a_met, a_order, a_leader, a_top, a_active, a_queue) f s :=
  ⟨65, fx_pt2 H 65 0 (by omega) (by omega)⟩
end
theorem fy_pt2 {post : SY → Prop} {ah m : Nat → Int32} {f s : Int32} (H : post (ft_pt (fun i => ((nI i * f) + s) &&& 63) ah 64, m)) :
    ∀ (n c : Nat), c ≤ 64 → 64 < c + n → wY_pattern_2 post f s n (nI c) (ft_pt (fun i => ((nI i * f) + s) &&& 63) ah c) m := by
  intro n
  induction n with
  | zero => intro c h1 h2; omega
  | succ n ih =>
    intro c h1 h2
    refine pk_le 64 c (fun h => ?_) (fun h => And.intro (vp_in_nI h (by decide)) (nm_r (ft_up h) (nm_r (nI_1 c) (ih (c + 1) (by omega) (by omega)))))
    have e : c = 64 := by omega
    subst e
    exact H
theorem fy_pattern {post : SY → Prop} {ah m : Nat → Int32} {f s : Int32} (H : post (ft_pt (fun i => ((nI i * f) + s) &&& 63) ah 64, m)) : wpY_pattern post (ah, m) f s :=
  ⟨65, fy_pt2 H 65 0 (by omega) (by omega)⟩
theorem ft_63 (x : Int32) : 0 ≤ (x &&& 63).toInt ∧ (x &&& 63).toInt ≤ 99 := by
  obtain ⟨j, hj, e⟩ := pk_andE x (m := 63) 6 (by decide)
  rw [e, nI_toInt (by omega)]
  omega
end
section
/-- the same heights, each 0 .. 99; levels that are ready are those of the flood -/
def i_Rel (_ : Nat) (u : SX) (v : SY) : Prop :=
  u.2.2.1 = v.1 ∧ (∀ x, 0 ≤ (u.2.2.1 x).toInt) ∧ (∀ x, (u.2.2.1 x).toInt ≤ 99) ∧ (u.1 ≠ 0 → ft_seal (fun x => (u.2.2.1 x).toInt) ft_bd (fun x => (u.2.2.2.1 x).toInt))
theorem zz_i {f_ready f_heap : Int32} {a_heights a_levels a_heapCell a_met a_order a_leader a_top a_active a_queue : Nat → Int32} {k : Nat} {m : Nat → Int32} (h0 : ∀ x, 0 ≤ (a_heights x).toInt) (h9 : ∀ x, (a_heights x).toInt ≤ 99)
    (hs : f_ready ≠ 0 → ft_seal (fun x => (a_heights x).toInt) ft_bd (fun x => (a_levels x).toInt)) : i_Rel k (f_ready, f_heap, a_heights, a_levels, a_heapCell, a_met, a_order, a_leader, a_top, a_active, a_queue) (a_heights, m) := ⟨rfl, h0, h9, hs⟩
theorem zz_e {P : SX → SY → Prop} {k : Nat} {u : SX} {v : SY} (I : i_Rel k u v)
    (h : ∀ (f_ready f_heap : Int32) (a_heights a_levels a_heapCell a_met a_order a_leader a_top a_active a_queue : Nat → Int32) (m : Nat → Int32), (∀ x, 0 ≤ (a_heights x).toInt) → (∀ x, (a_heights x).toInt ≤ 99) → (f_ready ≠ 0 → ft_seal (fun x => (a_heights x).toInt) ft_bd (fun x => (a_levels x).toInt)) → P (f_ready, f_heap, a_heights, a_levels, a_heapCell, a_met, a_order, a_leader, a_top, a_active, a_queue) (a_heights, m)) : P u v := by
  obtain ⟨f_ready, f_heap, a_heights, a_levels, a_heapCell, a_met, a_order, a_leader, a_top, a_active, a_queue⟩ := u
  obtain ⟨bh, m⟩ := v
  obtain ⟨e, h0, h9, hs⟩ := I
  have e' : a_heights = bh := e
  subst e'
  exact h _ _ _ _ _ _ _ _ _ _ _ m h0 h9 hs
theorem zz_b0 : ft_bd 0 := ⟨by omega, by omega⟩
theorem i_up {k : Nat} {u : SX} {v : SY} (h : i_Rel k u v) : i_Rel (k + 4) u v := h
theorem i_vc0 : wpX_init (fun u => wpY_init (fun v => i_Rel 0 u v)) :=
  zz_i (k := 0) (fun _ => by decide) (fun _ => by decide) (fun q => absurd rfl q)
theorem i_vc_set {k : Nat} {u : SX} {v : SY} (I : i_Rel k u v) (hk : k + 4 ≤ 2048) (v1 : Int32) (v2 : Int32) : wpX_set (fun r u' => wpY_set (fun r' v' => r' = r ∧ i_Rel (k + 4) u' v') v v1 v2) u v1 v2 := by
  refine zz_e (P := fun u v => wpX_set (fun r u' => wpY_set (fun r' v' => r' = r ∧ i_Rel (k + 4) u' v') v v1 v2) u v1 v2) I ?_
  intro f_ready f_heap a_heights a_levels a_heapCell a_met a_order a_leader a_top a_active a_queue m h0 h9 hs
  unfold wpX_set wpY_set
  dsimp only
  rcases ft_cell v1 with hx | ⟨c, hc, rfl⟩
  · exact fx_bad_no hx (br_f (by decide) (fy_bad_no hx (br_f (by decide) ⟨rfl, zz_i h0 h9 hs⟩)))
  · refine fx_bad_ok hc (br_t rfl ?_)
    by_cases q0 : v2 < 0
    · exact br_t q0 (fy_bad_ok hc (br_t rfl (br_t q0 ⟨rfl, zz_i h0 h9 hs⟩)))
    · by_cases q9 : v2 ≤ 99
      · have g0 : 0 ≤ v2.toInt := by
          rw [Int32.lt_iff_toInt_lt, ft_i0] at q0
          omega
        have g9 : v2.toInt ≤ 99 := by
          rw [Int32.le_iff_toInt_le, ft_i99] at q9
          exact q9
        refine br_f q0 (br_t q9 (And.intro (vp_in_nI hc (by decide)) (nm_e (And.intro (vp_in_nI hc (by decide)) (nm_e (fy_bad_ok hc (br_t rfl (br_f q0 (br_t q9 (And.intro (vp_in_nI hc (by decide)) (nm_e (And.intro (vp_in_nI hc (by decide)) (nm_e ⟨rfl, zz_i (fun x => ?_) (fun x => ?_) (fun q => absurd rfl q)⟩)))))))))))))
        · rw [nI_clamp (n := c) (by omega)]
          by_cases e : x = c
          · rw [e, pk_us]; exact g0
          · rw [pk_un e]; exact h0 x
        · rw [nI_clamp (n := c) (by omega)]
          by_cases e : x = c
          · rw [e, pk_us]; exact g9
          · rw [pk_un e]; exact h9 x
      · exact br_f q0 (br_f q9 (fy_bad_ok hc (br_t rfl (br_f q0 (br_f q9 ⟨rfl, zz_i h0 h9 hs⟩)))))
theorem i_vc_shift {k : Nat} {u : SX} {v : SY} (I : i_Rel k u v) (hk : k + 4 ≤ 2048) (v1 : Int32) (v2 : Int32) (v3 : Int32) : wpX_shift (fun r u' => wpY_shift (fun r' v' => r' = r ∧ i_Rel (k + 4) u' v') v v1 v2 v3) u v1 v2 v3 := by
  refine zz_e (P := fun u v => wpX_shift (fun r u' => wpY_shift (fun r' v' => r' = r ∧ i_Rel (k + 4) u' v') v v1 v2 v3) u v1 v2 v3) I ?_
  intro f_ready f_heap a_heights a_levels a_heapCell a_met a_order a_leader a_top a_active a_queue m h0 h9 hs
  rcases ft_cell v1 with hx | ⟨a, ha, rfl⟩
  · unfold wpX_shift wpY_shift
    dsimp only
    exact fx_bad_no hx (br_f (by decide) (fy_bad_no hx (br_f (by decide) ⟨rfl, zz_i h0 h9 hs⟩)))
  · rcases ft_cell v2 with hx | ⟨b, hb, rfl⟩
    · unfold wpX_shift wpY_shift
      dsimp only
      exact fx_bad_ok ha (br_t rfl (fx_bad_no hx (br_f (by decide) (fy_bad_ok ha (br_t rfl (fy_bad_no hx (br_f (by decide) ⟨rfl, zz_i h0 h9 hs⟩)))))))
    · refine fx_shift ha hb h0 h9 (fy_shift ha hb h0 h9 ⟨rfl, zz_i (fun x => ?_) (fun x => ?_) (fun q => absurd rfl q)⟩)
      · by_cases q : x < 64 ∧ ft_rc a b x
        · rw [ft_hs_t q]; exact ft_g_r.1
        · rw [ft_hs_f q]; exact h0 x
      · by_cases q : x < 64 ∧ ft_rc a b x
        · rw [ft_hs_t q]; exact ft_g_r.2
        · rw [ft_hs_f q]; exact h9 x
theorem i_vc_pattern {k : Nat} {u : SX} {v : SY} (I : i_Rel k u v) (hk : k + 4 ≤ 2048) (v1 : Int32) (v2 : Int32) : wpX_pattern (fun u' => wpY_pattern (fun v' => i_Rel (k + 4) u' v') v v1 v2) u v1 v2 := by
  refine zz_e (P := fun u v => wpX_pattern (fun u' => wpY_pattern (fun v' => i_Rel (k + 4) u' v') v v1 v2) u v1 v2) I ?_
  intro f_ready f_heap a_heights a_levels a_heapCell a_met a_order a_leader a_top a_active a_queue m h0 h9 hs
  exact fx_pattern (fy_pattern (zz_i (ft_pt_r (Q := fun v => 0 ≤ v.toInt) (fun x => (ft_63 _).1) h0 64) (ft_pt_r (Q := fun v => v.toInt ≤ 99) (fun x => (ft_63 _).2) h9 64) (fun q => absurd rfl q)))
theorem i_vc_height {k : Nat} {u : SX} {v : SY} (I : i_Rel k u v) (hk : k + 4 ≤ 2048) (v1 : Int32) : wpX_height (fun r => wpY_height (fun r' => r' = r ∧ i_Rel (k + 4) u v) v v1) u v1 := by
  refine zz_e (P := fun u v => wpX_height (fun r => wpY_height (fun r' => r' = r ∧ i_Rel (k + 4) u v) v v1) u v1) I ?_
  intro f_ready f_heap a_heights a_levels a_heapCell a_met a_order a_leader a_top a_active a_queue m h0 h9 hs
  unfold wpX_height wpY_height
  dsimp only
  rcases ft_cell v1 with hx | ⟨c, hc, rfl⟩
  · exact fx_bad_no hx (br_f (by decide) (fy_bad_no hx (br_f (by decide) ⟨rfl, zz_i h0 h9 hs⟩)))
  · exact fx_bad_ok hc (br_t rfl (And.intro (vp_in_nI hc (by decide)) (fy_bad_ok hc (br_t rfl (And.intro (vp_in_nI hc (by decide)) ⟨rfl, zz_i h0 h9 hs⟩)))))
theorem zz_lv {ah l m : Nat → Int32} (h9 : ∀ x, (ah x).toInt ≤ 99) (s : ft_seal (fun x => (ah x).toInt) ft_bd (fun x => (l x).toInt)) (s' : ft_seal (fun x => (ah x).toInt) ft_bd (fun x => (m x).toInt)) {c : Nat} (hc : c < 64) : m c = l c :=
  Int32.toInt_inj.mp (ft_seal_u (b := 0) (fun x _ => h9 x) (by omega) zz_b0 s' s hc)
theorem i_vc_level {k : Nat} {u : SX} {v : SY} (I : i_Rel k u v) (hk : k + 4 ≤ 2048) (v1 : Int32) : wpX_level (fun r u' => wpY_level (fun r' v' => r' = r ∧ i_Rel (k + 4) u' v') v v1) u v1 := by
  refine zz_e (P := fun u v => wpX_level (fun r u' => wpY_level (fun r' v' => r' = r ∧ i_Rel (k + 4) u' v') v v1) u v1) I ?_
  intro f_ready f_heap a_heights a_levels a_heapCell a_met a_order a_leader a_top a_active a_queue m h0 h9 hs
  rcases ft_cell v1 with hx | ⟨c, hc, rfl⟩
  · unfold wpX_level wpY_level
    dsimp only
    exact fx_bad_no hx (br_f (by decide) (fy_bad_no hx (br_f (by decide) ⟨rfl, zz_i h0 h9 hs⟩)))
  · exact fx_level hc h0 h9 hs (fun fr fh lv hcl met s => fy_level hc (fun m' s' => ⟨zz_lv h9 s s' hc, zz_i h0 h9 (fun _ => s)⟩))
theorem i_vc_volume {k : Nat} {u : SX} {v : SY} (I : i_Rel k u v) (hk : k + 4 ≤ 2048) : wpX_volume (fun r u' => wpY_volume (fun r' v' => r' = r ∧ i_Rel (k + 4) u' v') v) u := by
  refine zz_e (P := fun u v => wpX_volume (fun r u' => wpY_volume (fun r' v' => r' = r ∧ i_Rel (k + 4) u' v') v) u) I ?_
  intro f_ready f_heap a_heights a_levels a_heapCell a_met a_order a_leader a_top a_active a_queue m h0 h9 hs
  exact fx_volume h0 h9 hs (fun fr fh lv hcl met s => fy_volume (fun m' s' => ⟨ft_sum_c 64 (fun x hx => by rw [zz_lv h9 s s' hx]), zz_i h0 h9 (fun _ => s)⟩))
theorem i_vc_lakes {k : Nat} {u : SX} {v : SY} (I : i_Rel k u v) (hk : k + 4 ≤ 2048) : wpX_lakes (fun r u' => wpY_lakes (fun r' v' => r' = r ∧ i_Rel (k + 4) u' v') v) u := by
  refine zz_e (P := fun u v => wpX_lakes (fun r u' => wpY_lakes (fun r' v' => r' = r ∧ i_Rel (k + 4) u' v') v) u) I ?_
  intro f_ready f_heap a_heights a_levels a_heapCell a_met a_order a_leader a_top a_active a_queue m h0 h9 hs
  exact fx_lakes h0 h9 hs (fun fr fh lv hcl met qu s => fy_lakes h9 (fun m' => ⟨rfl, zz_i h0 h9 (fun _ => s)⟩))
theorem i_vc_lakeSize {k : Nat} {u : SX} {v : SY} (I : i_Rel k u v) (hk : k + 4 ≤ 2048) (v1 : Int32) : wpX_lakeSize (fun r u' => wpY_lakeSize (fun r' v' => r' = r ∧ i_Rel (k + 4) u' v') v v1) u v1 := by
  refine zz_e (P := fun u v => wpX_lakeSize (fun r u' => wpY_lakeSize (fun r' v' => r' = r ∧ i_Rel (k + 4) u' v') v v1) u v1) I ?_
  intro f_ready f_heap a_heights a_levels a_heapCell a_met a_order a_leader a_top a_active a_queue m h0 h9 hs
  rcases ft_cell v1 with hx | ⟨c, hc, rfl⟩
  · unfold wpX_lakeSize wpY_lakeSize
    dsimp only
    exact fx_bad_no hx (br_f (by decide) (fy_bad_no hx (br_f (by decide) ⟨rfl, zz_i h0 h9 hs⟩)))
  · exact fx_lakeSize hc h0 h9 hs (fun l fr fh lv hcl met qu s => fy_lakeSize h9 hc (fun _ m' => ⟨rfl, zz_i h0 h9 (fun _ => s)⟩) (fun nl => absurd l nl)) (fun nl fr fh lv hcl met qu s => fy_lakeSize h9 hc (fun l => absurd l nl) (fun _ m' => ⟨rfl, zz_i h0 h9 (fun _ => s)⟩))
theorem i_vc_pass {k : Nat} {u : SX} {v : SY} (I : i_Rel k u v) (hk : k + 4 ≤ 2048) (v1 : Int32) (v2 : Int32) : wpX_pass (fun r u' => wpY_pass (fun r' v' => r' = r ∧ i_Rel (k + 4) u' v') v v1 v2) u v1 v2 := by
  refine zz_e (P := fun u v => wpX_pass (fun r u' => wpY_pass (fun r' v' => r' = r ∧ i_Rel (k + 4) u' v') v v1 v2) u v1 v2) I ?_
  intro f_ready f_heap a_heights a_levels a_heapCell a_met a_order a_leader a_top a_active a_queue m h0 h9 hs
  rcases ft_cell v1 with hx | ⟨a, ha, rfl⟩
  · unfold wpX_pass wpY_pass
    dsimp only
    exact fx_bad_no hx (br_f (by decide) (fy_bad_no hx (br_f (by decide) ⟨rfl, zz_i h0 h9 hs⟩)))
  · rcases ft_cell v2 with hx | ⟨b, hb, rfl⟩
    · unfold wpX_pass wpY_pass
      dsimp only
      exact fx_bad_ok ha (br_t rfl (fx_bad_no hx (br_f (by decide) (fy_bad_ok ha (br_t rfl (fy_bad_no hx (br_f (by decide) ⟨rfl, zz_i h0 h9 hs⟩)))))))
    · refine fx_pass ha hb (fun r od ld tp ac q => fy_pass ha hb (fun m' s => ⟨Int32.toInt_inj.mp ?_, zz_i h0 h9 hs⟩))
      have l1 : (m' b).toInt ≤ 99 := ft_seal_99 (B := fun x => x = a) (fun x _ => h9 x) ha rfl s hb
      have l2 : r.toInt ≤ 99 := (q 99).mpr (ft_full (fun x _ => h9 x) ha hb)
      have e1 : (m' b).toInt ≤ r.toInt := (s b hb r.toInt (by omega)).mpr ((q r.toInt).mp (Int.le_refl _))
      have e2 : r.toInt ≤ (m' b).toInt := (q (m' b).toInt).mpr ((s b hb (m' b).toInt (by omega)).mp (Int.le_refl _))
      omega
theorem i_vc_reach {k : Nat} {u : SX} {v : SY} (I : i_Rel k u v) (hk : k + 4 ≤ 2048) (v1 : Int32) (v2 : Int32) : wpX_reach (fun r u' => wpY_reach (fun r' v' => r' = r ∧ i_Rel (k + 4) u' v') v v1 v2) u v1 v2 := by
  refine zz_e (P := fun u v => wpX_reach (fun r u' => wpY_reach (fun r' v' => r' = r ∧ i_Rel (k + 4) u' v') v v1 v2) u v1 v2) I ?_
  intro f_ready f_heap a_heights a_levels a_heapCell a_met a_order a_leader a_top a_active a_queue m h0 h9 hs
  rcases ft_cell v1 with hx | ⟨a, ha, rfl⟩
  · unfold wpX_reach wpY_reach
    dsimp only
    exact fx_bad_no hx (br_f (by decide) (fy_bad_no hx (br_f (by decide) ⟨rfl, zz_i h0 h9 hs⟩)))
  · exact fx_reach ha (fun od ld tp ac => fy_reach h9 ha (fun m' => ⟨rfl, zz_i h0 h9 hs⟩))
theorem i_vc_prominence {k : Nat} {u : SX} {v : SY} (I : i_Rel k u v) (hk : k + 4 ≤ 2048) (v1 : Int32) : wpX_prominence (fun r u' => wpY_prominence (fun r' v' => r' = r ∧ i_Rel (k + 4) u' v') v v1) u v1 := by
  refine zz_e (P := fun u v => wpX_prominence (fun r u' => wpY_prominence (fun r' v' => r' = r ∧ i_Rel (k + 4) u' v') v v1) u v1) I ?_
  intro f_ready f_heap a_heights a_levels a_heapCell a_met a_order a_leader a_top a_active a_queue m h0 h9 hs
  rcases ft_cell v1 with hx | ⟨a, ha, rfl⟩
  · unfold wpX_prominence wpY_prominence
    dsimp only
    exact fx_bad_no hx (br_f (by decide) (fy_bad_no hx (br_f (by decide) ⟨rfl, zz_i h0 h9 hs⟩)))
  · exact fx_prominence ha h0 h9 (fun v od ld tp ac q => fy_prominence ha (fun m' w q' => ⟨by rw [ft_sd_u q' q], zz_i h0 h9 hs⟩))
theorem i_vc_summits {k : Nat} {u : SX} {v : SY} (I : i_Rel k u v) (hk : k + 4 ≤ 2048) : wpX_summits (fun r u' => wpY_summits (fun r' v' => r' = r ∧ i_Rel (k + 4) u' v') v) u := by
  refine zz_e (P := fun u v => wpX_summits (fun r u' => wpY_summits (fun r' v' => r' = r ∧ i_Rel (k + 4) u' v') v) u) I ?_
  intro f_ready f_heap a_heights a_levels a_heapCell a_met a_order a_leader a_top a_active a_queue m h0 h9 hs
  exact fx_summits (fun met qu => fy_summits (fun m' => ⟨rfl, zz_i h0 h9 hs⟩))
end
