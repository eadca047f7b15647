section
/-! pasted of kit/rows PURE-ROWS: the pk_ rows, sb_m1 -/
theorem pk_us {f : Nat → Int32} {k : Nat} {x : Int32} : upd f k x k = x := if_pos rfl
theorem pk_un {f : Nat → Int32} {k j : Nat} {x : Int32} (h : j ≠ k) : upd f k x j = f j := if_neg h
theorem pk_sub {a b : Nat} (h : b ≤ a) : nI a - nI b = nI (a - b) := by
  obtain ⟨c, rfl⟩ : ∃ c, a = c + b := ⟨a - b, by omega⟩
  rw [← nI_add, Int32.add_sub_cancel, Nat.add_sub_cancel]
theorem pk_m1 (n : Nat) : nI (n + 1) + (-1) = nI n := by
  rw [← nI_1, Int32.add_assoc, show (1 : Int32) + (-1) = 0 from rfl, Int32.add_zero]
theorem pk_mul (a b : Nat) : nI a * nI b = nI (a * b) := (Int32.ofNat_mul a b).symm
theorem pk_div {a d : Nat} (ha : a < 2 ^ 31) (h0 : 0 < d) (hd : d < 2 ^ 31) : nI a / nI d = nI (a / d) := by
  apply Int32.toInt_inj.mp
  rw [lg_idiv_nonneg (by rw [nI_toInt ha]; omega) (by rw [nI_toInt hd]; omega), nI_toInt ha, nI_toInt hd, nI_toInt (Nat.lt_of_le_of_lt (Nat.div_le_self a d) ha)]
  first | rfl | exact (Int.natCast_ediv _ _).symm
theorem pk_rem {a d : Nat} (ha : a < 2 ^ 31) (h0 : 0 < d) (hd : d < 2 ^ 31) : nI a - nI a / nI d * nI d = nI (a % d) := by
  rw [pk_div ha h0 hd, pk_mul, pk_sub (Nat.div_mul_le_self a d)]
  exact congrArg nI (by have := Nat.div_add_mod' a d; omega)
theorem pk_ix (x : Int32) {n : Nat} (hn : n < 2 ^ 31) : x < 0 ∨ nI n ≤ x ∨ ∃ j : Nat, j < n ∧ x = nI j := by
  by_cases h : x < 0
  · exact Or.inl h
  · obtain ⟨j, hj, rfl⟩ := nI_of h
    by_cases h2 : j < n
    · exact Or.inr (Or.inr ⟨j, h2, rfl⟩)
    · exact Or.inr (Or.inl (nI_le (by omega) hj))
theorem pk_le {x y : Int32} {A B : Prop} (a b : Nat) (f : a ≤ b → A) (g : b < a → B) (hx : x = nI a := by rfl) (hy : y = nI b := by rfl) (ha : a < 2 ^ 31 := by omega) (hb : b < 2 ^ 31 := by omega) : (x ≤ y → A) ∧ (¬ x ≤ y → B) := by
  subst hx hy
  rw [nI_leI ha hb]
  exact ⟨f, fun z => g (by omega)⟩
theorem pk_lt {x y : Int32} {A B : Prop} (a b : Nat) (f : a < b → A) (g : b ≤ a → B) (hx : x = nI a := by rfl) (hy : y = nI b := by rfl) (ha : a < 2 ^ 31 := by omega) (hb : b < 2 ^ 31 := by omega) : (x < y → A) ∧ (¬ x < y → B) := by
  subst hx hy
  rw [nI_ltI ha hb]
  exact ⟨f, fun z => g (by omega)⟩
theorem pk_eq {x y : Int32} {A B : Prop} (a b : Nat) (f : a = b → A) (g : a ≠ b → B) (hx : x = nI a := by rfl) (hy : y = nI b := by rfl) (ha : a < 2 ^ 31 := by omega) (hb : b < 2 ^ 31 := by omega) : (x = y → A) ∧ (¬ x = y → B) := by
  subst hx hy
  rw [nI_eq ha hb]
  exact ⟨f, g⟩
theorem pk_in {x : Int32} (n N : Nat) (h : n < N) (hx : x = nI n := by rfl) (hN : N < 2 ^ 31 := by omega) : vp_in x N := by
  subst hx
  exact vp_in_nI h hN
theorem pk_cl {x : Int32} (n : Nat) (hx : x = nI n := by rfl) (h : n < 2 ^ 31 := by omega) : x.toNatClampNeg = n := by
  subst hx
  exact nI_clamp h
theorem pk_vb (z : Int32) : vp_nar .byte z.toInt8.toInt32 = z.toInt8.toInt32 := by rw [vp_nar_byte]; simp
theorem pk_least (P : Nat → Prop) (h : ∃ k, P k) : ∃ k, P k ∧ ∀ j, j < k → ¬ P j := by
  obtain ⟨k, hk⟩ := h
  induction k using Nat.strongRecOn with
  | ind k ih =>
    by_cases e : ∃ j, j < k ∧ P j
    · obtain ⟨j, hj, pj⟩ := e
      exact ih j hj pj
    · exact ⟨k, hk, fun j hj pj => e ⟨j, hj, pj⟩⟩
theorem sb_m1 {p : Nat} (h : 0 < p) : nI p + (-1) = nI (p - 1) := by
  obtain ⟨q, rfl⟩ : ∃ q, p = q + 1 := ⟨p - 1, by omega⟩
  exact pk_m1 q
/-! arrays by naturals -/
def rl_A (w : Nat → Nat) : Nat → Int32 := fun j => nI (w j)
def rl_u (w : Nat → Nat) (k v : Nat) : Nat → Nat := fun j => if j = k then v else w j
theorem rl_us {w : Nat → Nat} {k v : Nat} : rl_u w k v k = v := if_pos rfl
theorem rl_un {w : Nat → Nat} {k v j : Nat} (h : j ≠ k) : rl_u w k v j = w j := if_neg h
def rl_R (Q : Nat) (w : Nat → Nat) : Prop := ∀ j, w j < Q
theorem rl_Ru {Q : Nat} {w : Nat → Nat} {k v : Nat} (h : rl_R Q w) (hv : v < Q) : rl_R Q (rl_u w k v) := by
  intro j
  by_cases e : j = k
  · subst e; rw [rl_us]; exact hv
  · rw [rl_un e]; exact h j
theorem rl_upd (w : Nat → Nat) (k v : Nat) : upd (rl_A w) k (nI v) = rl_A (rl_u w k v) := by
  funext j
  by_cases e : j = k
  · subst e
    show upd (rl_A w) j (nI v) j = nI (rl_u w j v j)
    rw [pk_us, rl_us]
  · show upd (rl_A w) k (nI v) j = nI (rl_u w k v j)
    rw [pk_un e, rl_un e]
    rfl
theorem rl_i8 {v : Nat} (h : v < 128) : (nI v).toInt8.toInt32 = nI v :=
  lg_i2b_small (by rw [nI_toInt (by omega)]; omega) (by rw [nI_toInt (by omega)]; omega)
theorem rl_nb {v : Nat} (h : v < 128) : vp_nar .byte (nI v) = nI v := by rw [vp_nar_byte, rl_i8 h]
theorem rl_get {w : Nat → Nat} {i : Int32} (k : Nat) (hi : i = nI k) (hk : k < 2 ^ 31) : rl_A w i.toNatClampNeg = nI (w k) := by
  subst hi
  show nI (w (nI k).toNatClampNeg) = _
  rw [nI_clamp hk]
/-- a store, by its place and its value -/
theorem rl_st {w : Nat → Nat} {i e : Int32} {P : (Nat → Int32) → Prop} (k v : Nat) (hi : i = nI k) (hk : k < 2 ^ 31) (he : e = nI v) (h : P (rl_A (rl_u w k v))) : ∀ y, y = upd (rl_A w) i.toNatClampNeg e → P y := by
  intro y ey
  rw [ey, hi, nI_clamp hk, he, rl_upd]
  exact h
/-- a byte's store -/
theorem rl_sb {w : Nat → Nat} {i e : Int32} {P : (Nat → Int32) → Prop} (k v : Nat) (hi : i = nI k) (hk : k < 2 ^ 31) (he : e = nI v) (hv : v < 128) (h : P (rl_A (rl_u w k v))) : ∀ y, y = upd (rl_A w) i.toNatClampNeg (vp_nar .byte e) → P y :=
  rl_st k v hi hk (by rw [he, rl_nb hv]) h
/-- a cast byte's store -/
theorem rl_sc {w : Nat → Nat} {i e : Int32} {P : (Nat → Int32) → Prop} (k v : Nat) (hi : i = nI k) (hk : k < 2 ^ 31) (he : e = nI v) (hv : v < 128) (h : P (rl_A (rl_u w k v))) : ∀ y, y = upd (rl_A w) i.toNatClampNeg (vp_nar .byte e.toInt8.toInt32) → P y :=
  rl_sb k v hi hk (by rw [he, rl_i8 hv]) hv h
/-- the three moduli -/
def rl_Q (Q : Nat) : Prop := Q = 2 ∨ Q = 3 ∨ Q = 5
theorem rl_Q2 {Q : Nat} (h : rl_Q Q) : 2 ≤ Q := by rcases h with rfl | rfl | rfl <;> omega
theorem rl_Q5 {Q : Nat} (h : rl_Q Q) : Q ≤ 5 := by rcases h with rfl | rfl | rfl <;> omega
theorem rl_0 : (fun _ => 0 : Nat → Int32) = rl_A (fun _ => 0) := rfl
theorem rl_R0 {Q : Nat} (h : rl_Q Q) : rl_R Q (fun _ => 0) := fun _ => by have := rl_Q2 h; show 0 < Q; omega
/-- sums -/
def rl_S (f : Nat → Nat) : Nat → Nat
  | 0 => 0
  | n + 1 => rl_S f n + f n
theorem rl_Ss (f : Nat → Nat) (n : Nat) : rl_S f (n + 1) = rl_S f n + f n := rfl
theorem rl_Sle {f : Nat → Nat} {B : Nat} : ∀ n, (∀ i, i < n → f i ≤ B) → rl_S f n ≤ n * B := by
  intro n
  induction n with
  | zero => intro _; exact Nat.zero_le _
  | succ n ih =>
    intro h
    have h1 := ih (fun i hi => h i (by omega))
    have h2 := h n (by omega)
    rw [rl_Ss, Nat.succ_mul]
    omega
theorem rl_Scongr {f g : Nat → Nat} : ∀ n, (∀ i, i < n → f i = g i) → rl_S f n = rl_S g n := by
  intro n
  induction n with
  | zero => intro _; rfl
  | succ n ih =>
    intro h
    rw [rl_Ss, rl_Ss, ih (fun i hi => h i (by omega)), h n (by omega)]
theorem rl_prod {Q a b : Nat} (hQ : Q ≤ 5) (ha : a < Q) (hb : b < Q) : a * b ≤ 16 :=
  Nat.le_trans (Nat.mul_le_mul (show a ≤ 4 by omega) (show b ≤ 4 by omega)) (by decide)
end
section
/-! sums of integers -/
def sm_I (f : Nat → Int) : Nat → Int
  | 0 => 0
  | n + 1 => sm_I f n + f n
theorem sm_s (f : Nat → Int) (n : Nat) : sm_I f (n + 1) = sm_I f n + f n := rfl
theorem sm_cast (f : Nat → Nat) (n : Nat) : ((rl_S f n : Nat) : Int) = sm_I (fun i => (f i : Int)) n := by
  induction n with
  | zero => rfl
  | succ n ih => rw [rl_Ss, sm_s, Int.natCast_add, ih]
theorem sm_congr {f g : Nat → Int} {n : Nat} (h : ∀ i, i < n → f i = g i) : sm_I f n = sm_I g n := by
  induction n with
  | zero => rfl
  | succ n ih => rw [sm_s, sm_s, ih (fun i hi => h i (by omega)), h n (by omega)]
theorem sm_add (f g : Nat → Int) (n : Nat) : sm_I (fun i => f i + g i) n = sm_I f n + sm_I g n := by
  induction n with
  | zero => rfl
  | succ n ih => rw [sm_s, sm_s, sm_s, ih]; omega
theorem sm_sub (f g : Nat → Int) (n : Nat) : sm_I (fun i => f i - g i) n = sm_I f n - sm_I g n := by
  induction n with
  | zero => rfl
  | succ n ih => rw [sm_s, sm_s, sm_s, ih]; omega
theorem sm_mul (a : Int) (f : Nat → Int) (n : Nat) : sm_I (fun i => a * f i) n = a * sm_I f n := by
  induction n with
  | zero => exact (Int.mul_zero a).symm
  | succ n ih => rw [sm_s, sm_s, ih, Int.mul_add]
theorem sm_zero {f : Nat → Int} {n : Nat} (h : ∀ i, i < n → f i = 0) : sm_I f n = 0 := by
  induction n with
  | zero => rfl
  | succ n ih => rw [sm_s, ih (fun i hi => h i (by omega)), h n (by omega)]; rfl
theorem sm_dvd {q : Int} {f : Nat → Int} {n : Nat} (h : ∀ i, i < n → q ∣ f i) : q ∣ sm_I f n := by
  induction n with
  | zero => exact Int.dvd_zero q
  | succ n ih => rw [sm_s]; exact Int.dvd_add (ih (fun i hi => h i (by omega))) (h n (by omega))
theorem sm_split (f : Nat → Int) (m n : Nat) : sm_I f (m + n) = sm_I f m + sm_I (fun i => f (m + i)) n := by
  induction n with
  | zero => exact (Int.add_zero _).symm
  | succ n ih => rw [← Nat.add_assoc, sm_s, sm_s, ih]; omega
theorem sm_ext {f : Nat → Int} {n m : Nat} (h : n ≤ m) (hz : ∀ i, n ≤ i → i < m → f i = 0) : sm_I f m = sm_I f n := by
  obtain ⟨d, rfl⟩ : ∃ d, m = n + d := ⟨m - n, by omega⟩
  rw [sm_split, sm_zero (fun i hi => hz (n + i) (by omega) (by omega)), Int.add_zero]
theorem sm_head (f : Nat → Int) (n : Nat) : sm_I f (n + 1) = f 0 + sm_I (fun i => f (i + 1)) n := by
  induction n with
  | zero => show (0 : Int) + f 0 = f 0 + 0; omega
  | succ n ih => rw [sm_s, ih, sm_s]; omega
theorem sm_swap (f : Nat → Nat → Int) (m n : Nat) : sm_I (fun i => sm_I (fun j => f i j) n) m = sm_I (fun j => sm_I (fun i => f i j) m) n := by
  induction m with
  | zero => exact (sm_zero (fun _ _ => rfl)).symm
  | succ m ih =>
    rw [sm_s, ih, ← sm_add]
    exact sm_congr (fun i _ => rfl)

/-! divisibility by the modulus -/
theorem dv_of {Q a b : Nat} (h : a % Q = b) : (Q : Int) ∣ (a : Int) - b := by
  refine ⟨((a / Q : Nat) : Int), ?_⟩
  have e := Nat.div_add_mod a Q
  rw [h] at e
  have e2 : ((Q * (a / Q) + b : Nat) : Int) = (a : Int) := by rw [e]
  rw [Int.natCast_add, Int.natCast_mul] at e2
  omega
theorem dv_to {Q a b : Nat} (hb : b < Q) (h : (Q : Int) ∣ (a : Int) - b) : a % Q = b := by
  obtain ⟨c, hc⟩ := h
  have e : (a : Int) = b + Q * c := by omega
  have e2 : ((a % Q : Nat) : Int) = (b : Int) := by
    rw [Int.natCast_emod, e, Int.add_mul_emod_self_left]
    exact Int.emod_eq_of_lt (by omega) (by omega)
  omega
theorem dv_mod (Q a : Nat) : (Q : Int) ∣ ((a % Q : Nat) : Int) - a := by
  have h := dv_of (Q := Q) (a := a) rfl
  have h2 := Int.dvd_neg.mpr h
  rwa [Int.neg_sub] at h2
theorem dv_eq {Q a b : Nat} (ha : a < Q) (hb : b < Q) (h : (Q : Int) ∣ (a : Int) - b) : a = b := by
  have := dv_to hb h
  rwa [Nat.mod_eq_of_lt ha] at this
theorem dv_z {Q a : Nat} (h : a % Q = 0) : (Q : Int) ∣ (a : Int) := by
  have := dv_of h
  simpa using this
theorem dv_nz {Q a : Nat} (h : (Q : Int) ∣ (a : Int)) : a % Q = 0 := Nat.mod_eq_zero_of_dvd (Int.natCast_dvd_natCast.mp h)
/-- 'wrap': a - f b modulo Q as the program reckons it -/
theorem dv_wrap {Q a f b : Nat} (hf : f < Q) (hb : b < Q) : (Q : Int) ∣ (((a + Q * Q - f * b) % Q : Nat) : Int) - ((a : Int) - f * b) := by
  have hm : f * b ≤ Q * Q := Nat.mul_le_mul (by omega) (by omega)
  have h := dv_mod Q (a + Q * Q - f * b)
  obtain ⟨c, hc⟩ := h
  refine ⟨c + Q, ?_⟩
  have e : ((a + Q * Q - f * b : Nat) : Int) = (a : Int) + Q * Q - f * b := by
    rw [Int.ofNat_sub (by omega), Int.natCast_add, Int.natCast_mul, Int.natCast_mul]
  rw [e] at hc
  rw [Int.mul_add]
  omega
theorem dv_wrap0 {Q a b : Nat} (ha : a < Q) (hb : b = 0) (f : Nat) : (a + Q * Q - f * b) % Q = a := by
  subst hb
  rw [Nat.mul_zero, Nat.sub_zero, Nat.add_mul_mod_self_left, Nat.mod_eq_of_lt ha]
theorem dv_add {q a b : Int} (h1 : q ∣ a) (h2 : q ∣ b) : q ∣ a + b := Int.dvd_add h1 h2
theorem dv_l {q a : Int} (b : Int) (h : q ∣ a) : q ∣ b * a := Int.dvd_trans h (Int.dvd_mul_left b a)
theorem dv_eqv {q a b : Int} (h : q ∣ a) (e : a = b) : q ∣ b := e ▸ h

/-! registers -/
def rg_Gen (Q : Nat) (s : Nat → Nat) (k L : Nat) (c : Nat → Nat) : Prop := ∀ j, L ≤ j → j < k → rl_S (fun i => c (i + 1) * s (j - (i + 1))) L % Q = s j
def rg_LC (Q : Nat) (s : Nat → Nat) (k L : Nat) : Prop := (∃ c, rl_R Q c ∧ rg_Gen Q s k L c) ∧ ∀ M c, rl_R Q c → rg_Gen Q s k M c → L ≤ M
theorem rg_LC_u {Q k L M : Nat} {s : Nat → Nat} (h : rg_LC Q s k L) (h' : rg_LC Q s k M) : L = M := by
  obtain ⟨⟨c, hc, gc⟩, m⟩ := h
  obtain ⟨⟨c', hc', gc'⟩, m'⟩ := h'
  exact Nat.le_antisymm (m M c' hc' gc') (m' L c hc gc)
theorem rg_cong {Q k L : Nat} {s c c' : Nat → Nat} (h : ∀ i, 1 ≤ i → i ≤ L → c' i = c i) (g : rg_Gen Q s k L c) : rg_Gen Q s k L c' := by
  intro j h1 h2
  rw [← g j h1 h2]
  exact congrArg (· % Q) (rl_Scongr L (fun i hi => by rw [h (i + 1) (by omega) (by omega)]))
theorem rg_seq {Q k L : Nat} {s s' c : Nat → Nat} (h : ∀ j, j < k → s' j = s j) (g : rg_Gen Q s k L c) : rg_Gen Q s' k L c := by
  intro j h1 h2
  rw [h j h2, ← g j h1 h2]
  exact congrArg (· % Q) (rl_Scongr L (fun i hi => by rw [h (j - (i + 1)) (by omega)]))
theorem rg_LC_seq {Q k L : Nat} {s s' : Nat → Nat} (h : ∀ j, j < k → s' j = s j) (g : rg_LC Q s k L) : rg_LC Q s' k L := by
  obtain ⟨⟨c, hc, gc⟩, m⟩ := g
  exact ⟨⟨c, hc, rg_seq h gc⟩, fun M d hd gd => m M d hd (rg_seq (fun j hj => (h j hj).symm) gd)⟩

/-! digits: the codes of registers -/
def dg_pc (Q : Nat) (x : Nat → Nat) : Nat → Nat
  | 0 => 0
  | i + 1 => dg_pc Q x i * Q + x (i + 1)
def dg_D (Q L m : Nat) : Nat → Nat := fun i => m / Q ^ (L - i) % Q
theorem dg_s (Q : Nat) (x : Nat → Nat) (i : Nat) : dg_pc Q x (i + 1) = dg_pc Q x i * Q + x (i + 1) := rfl
theorem dg_R {Q : Nat} (hQ : 0 < Q) (L m : Nat) : rl_R Q (dg_D Q L m) := fun _ => Nat.mod_lt _ hQ
theorem dg_lt {Q : Nat} {x : Nat → Nat} (hx : rl_R Q x) : ∀ L, dg_pc Q x L < Q ^ L := by
  intro L
  induction L with
  | zero => exact Nat.zero_lt_one
  | succ L ih =>
    rw [dg_s, Nat.pow_succ]
    have h1 := hx (L + 1)
    have h2 : (dg_pc Q x L + 1) * Q ≤ Q ^ L * Q := Nat.mul_le_mul_right Q ih
    rw [Nat.succ_mul] at h2
    omega
theorem dg_cong {Q : Nat} {x y : Nat → Nat} : ∀ L, (∀ i, 1 ≤ i → i ≤ L → x i = y i) → dg_pc Q x L = dg_pc Q y L := by
  intro L
  induction L with
  | zero => intro _; rfl
  | succ L ih => intro h; rw [dg_s, dg_s, ih (fun i h1 h2 => h i h1 (by omega)), h (L + 1) (by omega) (by omega)]
/-- the digits of a code -/
theorem dg_pcdiv {Q : Nat} (hQ : 0 < Q) {x : Nat → Nat} (hx : rl_R Q x) (i : Nat) : ∀ d, dg_pc Q x (i + d) / Q ^ d = dg_pc Q x i := by
  intro d
  induction d with
  | zero => rw [Nat.pow_zero, Nat.div_one]; rfl
  | succ d ih =>
    rw [← Nat.add_assoc, dg_s, Nat.pow_succ, Nat.mul_comm (Q ^ d) Q, ← Nat.div_div_eq_div_mul, Nat.mul_comm _ Q, Nat.mul_add_div hQ, Nat.div_eq_of_lt (hx _), Nat.add_zero]
    exact ih
theorem dg_of {Q : Nat} (hQ : 0 < Q) {x : Nat → Nat} (hx : rl_R Q x) {L i : Nat} (h1 : 1 ≤ i) (h2 : i ≤ L) : dg_D Q L (dg_pc Q x L) i = x i := by
  show dg_pc Q x L / Q ^ (L - i) % Q = x i
  have h := dg_pcdiv hQ hx i (L - i)
  rw [show i + (L - i) = L by omega] at h
  rw [h]
  obtain ⟨t, rfl⟩ : ∃ t, i = t + 1 := ⟨i - 1, by omega⟩
  rw [dg_s, Nat.mul_comm, Nat.mul_add_mod, Nat.mod_eq_of_lt (hx _)]
theorem dg_back {Q L m : Nat} (hm : m < Q ^ L) : ∀ i, i ≤ L → dg_pc Q (dg_D Q L m) i = m / Q ^ (L - i) := by
  intro i
  induction i with
  | zero => intro _; rw [Nat.sub_zero, Nat.div_eq_of_lt hm]; rfl
  | succ i ih =>
    intro h
    rw [dg_s, ih (by omega)]
    show m / Q ^ (L - i) * Q + m / Q ^ (L - (i + 1)) % Q = _
    rw [show L - i = (L - (i + 1)) + 1 by omega, Nat.pow_succ, ← Nat.div_div_eq_div_mul]
    exact Nat.div_add_mod' _ _
theorem dg_self {Q L m : Nat} (hm : m < Q ^ L) : dg_pc Q (dg_D Q L m) L = m := by
  rw [dg_back hm L (Nat.le_refl L), Nat.sub_self, Nat.pow_zero, Nat.div_one]
end
section
/-! Massey's lemma -/
theorem ms_key {q : Int} {s C D : Nat → Int} {k L M : Nat} (h : M + L ≤ k) (hD0 : D 0 = 1)
    (hC : ∀ j, L ≤ j → j < k → q ∣ sm_I (fun i => C i * s (j - i)) (L + 1))
    (hD : ∀ j, M ≤ j → j < k + 1 → q ∣ sm_I (fun i => D i * s (j - i)) (M + 1)) :
    q ∣ sm_I (fun i => C i * s (k - i)) (L + 1) := by
  have e1 : sm_I (fun i => sm_I (fun j => D i * (C j * s (k - i - j))) (L + 1)) (M + 1) = sm_I (fun i => D i * sm_I (fun j => C j * s (k - i - j)) (L + 1)) (M + 1) :=
    sm_congr (fun i _ => sm_mul (D i) (fun j => C j * s (k - i - j)) (L + 1))
  have e2 : sm_I (fun j => sm_I (fun i => D i * (C j * s (k - i - j))) (M + 1)) (L + 1) = sm_I (fun j => C j * sm_I (fun i => D i * s (k - j - i)) (M + 1)) (L + 1) := by
    refine sm_congr (fun j _ => ?_)
    rw [← sm_mul]
    refine sm_congr (fun i _ => ?_)
    rw [show k - i - j = k - j - i by omega, Int.mul_left_comm]
  have e3 := sm_swap (fun i j => D i * (C j * s (k - i - j))) (M + 1) (L + 1)
  have d2 : q ∣ sm_I (fun j => C j * sm_I (fun i => D i * s (k - j - i)) (M + 1)) (L + 1) :=
    sm_dvd (fun j hj => dv_l _ (hD (k - j) (by omega) (by omega)))
  have d1 : q ∣ sm_I (fun i => D i * sm_I (fun j => C j * s (k - i - j)) (L + 1)) (M + 1) := by
    rw [← e1, e3, e2]
    exact d2
  rw [sm_head] at d1
  have d3 : q ∣ sm_I (fun i => D (i + 1) * sm_I (fun j => C j * s (k - (i + 1) - j)) (L + 1)) M :=
    sm_dvd (fun i hi => dv_l _ (hC (k - (i + 1)) (by omega) (by omega)))
  have d4 := (Int.dvd_add_left d3).mp d1
  rw [hD0, Int.one_mul] at d4
  exact d4

/-! the mending of a register: its invariant -/
def bm_G (s p : Nat → Nat) (L j : Nat) : Int := sm_I (fun i => (p i : Int) * (s (j - i) : Int)) (L + 1)
theorem bm_GS (s p : Nat → Nat) (L j : Nat) : ((rl_S (fun i => p i * s (j - i)) (L + 1) : Nat) : Int) = bm_G s p L j := by
  rw [sm_cast]
  exact sm_congr (fun i _ => Int.natCast_mul _ _)
def bm_Min (Q : Nat) (s : Nat → Nat) (k L : Nat) : Prop := ∀ (M : Nat) (D : Nat → Int), D 0 = 1 → (∀ j, M ≤ j → j < k → (Q : Int) ∣ sm_I (fun i => D i * (s (j - i) : Int)) (M + 1)) → L ≤ M
/-- the register p of length L generates the first k symbols and no shorter one does -/
def bm_P (Q : Nat) (s : Nat → Nat) (k L : Nat) (p : Nat → Nat) : Prop :=
  L ≤ k ∧ p 0 = 1 ∧ (∀ i, L < i → i < 32 → p i = 0) ∧ (∀ j, L ≤ j → j < k → (Q : Int) ∣ bm_G s p L j) ∧ bm_Min Q s k L
/-- the old register o, of length B, failed first at the symbol N - 1, by b -/
def bm_O (Q : Nat) (s : Nat → Nat) (N B b : Nat) (o : Nat → Nat) : Prop :=
  (∀ i, B < i → i < 32 → o i = 0) ∧ (∀ j, B ≤ j → j + 1 < N → (Q : Int) ∣ bm_G s o B j) ∧ (∀ t, N = t + 1 → (Q : Int) ∣ bm_G s o B t - b)
def bm_I (Q : Nat) (s : Nat → Nat) (k L m b : Nat) (p o : Nat → Nat) : Prop :=
  1 ≤ m ∧ m ≤ k + 1 ∧ 0 < b ∧ b < Q ∧ bm_P Q s k L p ∧ ∃ B N, N + m = k + 1 ∧ B + L = N ∧ bm_O Q s N B b o
theorem bm_init {Q : Nat} {s p o : Nat → Nat} (hQ : 2 ≤ Q) (p0 : p 0 = 1) (pz : ∀ i, 0 < i → i < 32 → p i = 0) (oz : ∀ i, 0 < i → i < 32 → o i = 0) : bm_I Q s 0 0 1 1 p o := by
  refine ⟨by omega, by omega, by omega, by omega, ⟨by omega, p0, pz, fun j _ h => absurd h (by omega), fun M D _ _ => Nat.zero_le _⟩, 0, 0, rfl, rfl, oz, fun j _ h => absurd h (by omega), fun t h => absurd h (by omega)⟩
theorem bm_Min_s {Q : Nat} {s : Nat → Nat} {k L : Nat} (h : bm_Min Q s k L) : bm_Min Q s (k + 1) L := fun M D h0 hg => h M D h0 (fun j h1 h2 => hg j h1 (by omega))
theorem bm_same {Q k L m b : Nat} {s p o : Nat → Nat} (h : bm_I Q s k L m b p o) (hd : (Q : Int) ∣ bm_G s p L k) : bm_I Q s (k + 1) L (m + 1) b p o := by
  obtain ⟨m1, m2, b1, b2, ⟨l1, p0, pz, pg, pm⟩, B, N, e1, e2, ho⟩ := h
  refine ⟨by omega, by omega, b1, b2, ⟨by omega, p0, pz, fun j h1 h2 => ?_, bm_Min_s pm⟩, B, N, by omega, e2, ho⟩
  by_cases e : j = k
  · rw [e]; exact hd
  · exact pg j h1 (by omega)
/-- what a mended register says -/
theorem bm_mendG {Q m B L K sh : Nat} {s p o p' : Nat → Nat} (hK : K < 32) (hL : L ≤ K) (hB : B + m ≤ K)
    (pz : ∀ i, L < i → i < 32 → p i = 0) (oz : ∀ i, B < i → i < 32 → o i = 0) (ho : rl_R Q o) (hsh : sh < Q)
    (lo : ∀ i, i < m → p' i = p i) (hi : ∀ i, m ≤ i → i < 32 → p' i = (p i + Q * Q - sh * o (i - m)) % Q) (j : Nat) :
    (Q : Int) ∣ bm_G s p' K j - (bm_G s p L j - sh * bm_G s o B (j - m)) := by
  have e1 : bm_G s p L j = sm_I (fun i => (p i : Int) * (s (j - i) : Int)) (K + 1) := by
    refine (sm_ext (by omega) (fun i h1 h2 => ?_)).symm
    rw [pz i (by omega) (by omega)]
    exact Int.zero_mul _
  have e2 : bm_G s o B (j - m) = sm_I (fun i => if i < m then 0 else (o (i - m) : Int) * (s (j - i) : Int)) (K + 1) := by
    rw [show K + 1 = m + (K + 1 - m) by omega, sm_split, sm_zero (fun i hi => if_pos hi), Int.zero_add]
    have e3 : bm_G s o B (j - m) = sm_I (fun i => (o i : Int) * (s (j - m - i) : Int)) (K + 1 - m) := by
      refine (sm_ext (by omega) (fun i h1 h2 => ?_)).symm
      rw [oz i (by omega) (by omega)]
      exact Int.zero_mul _
    rw [e3]
    refine sm_congr (fun i hi => ?_)
    rw [if_neg (by omega), show m + i - m = i by omega, show j - (m + i) = j - m - i by omega]
  rw [e1, e2, ← sm_mul, ← sm_sub]
  unfold bm_G
  rw [← sm_sub]
  refine sm_dvd (fun i hi' => ?_)
  by_cases c : i < m
  · rw [if_pos c, lo i c, Int.mul_zero, Int.sub_zero, Int.sub_self]
    exact Int.dvd_zero _
  · rw [if_neg c, hi i (by omega) (by omega)]
    have h := dv_l (s (j - i) : Int) (dv_wrap (Q := Q) (a := p i) (f := sh) (b := o (i - m)) hsh (ho _))
    refine dv_eqv h ?_
    rw [Int.mul_sub, Int.mul_sub, Int.mul_comm (s (j - i) : Int), Int.mul_comm (s (j - i) : Int), Int.mul_comm (s (j - i) : Int), Int.mul_assoc]
theorem bm_mendP {Q k L m b K sh d : Nat} {s p o p' : Nat → Nat} (h : bm_I Q s k L m b p o) (hK : K < 32) (hL : L ≤ K) (hkK : k + 1 ≤ K + L)
    (ho : rl_R Q o) (hsh : sh < Q) (hdv : (Q : Int) ∣ bm_G s p L k - d) (hsb : (Q : Int) ∣ (sh : Int) * b - d)
    (lo : ∀ i, i < m → p' i = p i) (hi : ∀ i, m ≤ i → i < 32 → p' i = (p i + Q * Q - sh * o (i - m)) % Q) :
    p' 0 = 1 ∧ (∀ i, K < i → i < 32 → p' i = 0) ∧ (∀ j, K ≤ j → j < k + 1 → (Q : Int) ∣ bm_G s p' K j) := by
  obtain ⟨m1, m2, b1, b2, ⟨l1, p0, pz, pg, pm⟩, B, N, e1, e2, oz, og, ol⟩ := h
  refine ⟨by rw [lo 0 (by omega)]; exact p0, fun i h1 h2 => ?_, fun j h1 h2 => ?_⟩
  · by_cases c : i < m
    · rw [lo i c, pz i (by omega) h2]
    · rw [hi i (by omega) h2, pz i (by omega) h2]
      exact dv_wrap0 (by omega) (oz (i - m) (by omega) (by omega)) sh
  · have g := bm_mendG hK hL (by omega) pz oz ho hsh lo hi (s := s) j
    by_cases c : j = k
    · subst c
      have g2 := ol (j - m) (by omega)
      have g3 := dv_l (sh : Int) g2
      have g4 := dv_add (Int.dvd_sub (dv_add g hdv) g3) (Int.dvd_neg.mpr hsb)
      refine dv_eqv g4 ?_
      rw [Int.mul_sub]
      omega
    · have g1 := pg j (by omega) (by omega)
      have g2 := dv_l (sh : Int) (og (j - m) (by omega) (by omega))
      have g4 := dv_add g (Int.dvd_sub g1 g2)
      refine dv_eqv g4 ?_
      omega
/-- mended, the length stays -/
theorem bm_mend {Q k L m b sh d : Nat} {s p o p' : Nat → Nat} (h : bm_I Q s k L m b p o) (hk : k < 31) (hc : k < 2 * L)
    (ho : rl_R Q o) (hsh : sh < Q) (hdv : (Q : Int) ∣ bm_G s p L k - d) (hsb : (Q : Int) ∣ (sh : Int) * b - d)
    (lo : ∀ i, i < m → p' i = p i) (hi : ∀ i, m ≤ i → i < 32 → p' i = (p i + Q * Q - sh * o (i - m)) % Q) : bm_I Q s (k + 1) L (m + 1) b p' o := by
  have hl : L ≤ k := h.2.2.2.2.1.1
  have g := bm_mendP h (K := L) (by omega) (Nat.le_refl L) (by omega) ho hsh hdv hsb lo hi
  obtain ⟨m1, m2, b1, b2, ⟨l1, p0, pz, pg, pm⟩, B, N, e1, e2, hO⟩ := h
  exact ⟨by omega, by omega, b1, b2, ⟨by omega, g.1, g.2.1, g.2.2, bm_Min_s pm⟩, B, N, by omega, e2, hO⟩
/-- mended, and the length grows -/
theorem bm_grow {Q k L m b sh d : Nat} {s p o p' o' : Nat → Nat} (h : bm_I Q s k L m b p o) (hk : k < 31) (hc : 2 * L ≤ k)
    (ho : rl_R Q o) (hsh : sh < Q) (hdv : (Q : Int) ∣ bm_G s p L k - d) (hsb : (Q : Int) ∣ (sh : Int) * b - d) (hd0 : 0 < d) (hdQ : d < Q)
    (lo : ∀ i, i < m → p' i = p i) (hi : ∀ i, m ≤ i → i < 32 → p' i = (p i + Q * Q - sh * o (i - m)) % Q)
    (hO : ∀ i, i < 32 → o' i = p i) : bm_I Q s (k + 1) (k + 1 - L) 1 d p' o' := by
  have g := bm_mendP h (K := k + 1 - L) (by omega) (by omega) (by omega) ho hsh hdv hsb lo hi
  obtain ⟨m1, m2, b1, b2, ⟨l1, p0, pz, pg, pm⟩, B, N, e1, e2, oz, og, ol⟩ := h
  have eG : ∀ j, bm_G s o' L j = bm_G s p L j := fun j => sm_congr (fun i hi => by rw [hO i (by omega)])
  refine ⟨by omega, by omega, hd0, hdQ, ⟨by omega, g.1, g.2.1, g.2.2, fun M D h0 hg => ?_⟩, L, k + 1, by omega, by omega, fun i h1 h2 => ?_, fun j h1 h2 => ?_, fun t ht => ?_⟩
  · by_cases c : k + 1 - L ≤ M
    · exact c
    · exfalso
      have z := ms_key (q := (Q : Int)) (s := fun i => (s i : Int)) (C := fun i => (p i : Int)) (D := D) (k := k) (L := L) (M := M) (by omega) h0 pg hg
      have z2 : (Q : Int) ∣ (d : Int) := dv_eqv (Int.dvd_sub z hdv) (by unfold bm_G; omega)
      have z3 := dv_nz z2
      rw [Nat.mod_eq_of_lt hdQ] at z3
      omega
  · rw [hO i h2]; exact pz i h1 h2
  · rw [eG]; exact pg j h1 (by omega)
  · have : t = k := by omega
    subst this
    rw [eG]; exact hdv
theorem bm_bounds {Q k L m b : Nat} {s p o : Nat → Nat} (h : bm_I Q s k L m b p o) : 1 ≤ m ∧ m ≤ k + 1 ∧ 0 < b ∧ b < Q ∧ L ≤ k :=
  ⟨h.1, h.2.1, h.2.2.1, h.2.2.2.1, h.2.2.2.2.1.1⟩
theorem bm_neg {Q a : Nat} (h : a < Q) : (Q : Int) ∣ (((Q - a) % Q : Nat) : Int) + a := by
  have g := dv_mod Q (Q - a)
  obtain ⟨c, hc⟩ := g
  refine ⟨c + 1, ?_⟩
  rw [Int.mul_add, Int.mul_one, ← hc]
  omega
/-- at the end: the least length -/
theorem bm_end {Q k L m b : Nat} {s p o : Nat → Nat} (h : bm_I Q s k L m b p o) (hs : rl_R Q s) (hp : rl_R Q p) : L ≤ k ∧ rg_LC Q s k L := by
  obtain ⟨m1, m2, b1, b2, ⟨l1, p0, pz, pg, pm⟩, -⟩ := h
  refine ⟨l1, ⟨fun i => (Q - p i) % Q, fun i => Nat.mod_lt _ (by omega), fun j h1 h2 => ?_⟩, fun M c hc gc => ?_⟩
  · refine dv_to (hs j) ?_
    have g := pg j h1 h2
    unfold bm_G at g
    rw [sm_head, p0, sm_cast] at *
    have g2 : (Q : Int) ∣ sm_I (fun i => (((Q - p (i + 1)) % Q * s (j - (i + 1)) : Nat) : Int) + (p (i + 1) : Int) * (s (j - (i + 1)) : Int)) L := by
      refine sm_dvd (fun i _ => ?_)
      refine dv_eqv (dv_l (s (j - (i + 1)) : Int) (bm_neg (hp (i + 1)))) ?_
      rw [Int.natCast_mul, Int.mul_add, Int.mul_comm _ (s (j - (i + 1)) : Int), Int.mul_comm _ (s (j - (i + 1)) : Int)]
    rw [sm_add] at g2
    show (Q : Int) ∣ sm_I (fun i => (((Q - p (i + 1)) % Q * s (j - (i + 1)) : Nat) : Int)) L - (s j : Int)
    refine dv_eqv (Int.dvd_sub g2 g) ?_
    rw [Nat.sub_zero]
    omega
  · refine pm M (fun i => if i = 0 then 1 else -(c i : Int)) rfl (fun j h1 h2 => ?_)
    rw [sm_head]
    have g := dv_of (gc j h1 h2)
    rw [sm_cast] at g
    refine dv_eqv (Int.dvd_neg.mpr g) ?_
    have e : sm_I (fun i => (if i + 1 = 0 then (1 : Int) else -(c (i + 1) : Int)) * (s (j - (i + 1)) : Int)) M = (-1) * sm_I (fun i => ((c (i + 1) * s (j - (i + 1)) : Nat) : Int)) M := by
      rw [← sm_mul]
      refine sm_congr (fun i _ => ?_)
      rw [if_neg (by omega), Int.natCast_mul, Int.neg_mul, Int.neg_mul, Int.one_mul]
    rw [e, if_pos rfl, Nat.sub_zero]
    omega
end
section
/-! equations modulo Q: rows of L cells and a right side -/
def ga_e (L : Nat) (v x : Nat → Int) : Int := sm_I (fun c => v c * x c) L - v L
def ga_row (A : Nat → Nat → Nat) (j : Nat) : Nat → Int := fun c => (A j c : Int)
def ga_Sol (Q R L : Nat) (A : Nat → Nat → Nat) (x : Nat → Int) : Prop := ∀ j, j < R → (Q : Int) ∣ ga_e L (ga_row A j) x
theorem ga_lin {q : Int} {L : Nat} {v u w x : Nat → Int} (a b : Int) (h : ∀ c, c ≤ L → q ∣ v c - (a * u c + b * w c)) :
    q ∣ ga_e L v x - (a * ga_e L u x + b * ga_e L w x) := by
  have h1 : q ∣ sm_I (fun c => x c * (v c - (a * u c + b * w c))) L := sm_dvd (fun c hc => dv_l _ (h c (by omega)))
  have e : sm_I (fun c => x c * (v c - (a * u c + b * w c))) L = sm_I (fun c => v c * x c) L - (a * sm_I (fun c => u c * x c) L + b * sm_I (fun c => w c * x c) L) := by
    rw [← sm_mul, ← sm_mul, ← sm_add, ← sm_sub]
    refine sm_congr (fun c _ => ?_)
    grind
  rw [e] at h1
  refine dv_eqv (Int.dvd_sub h1 (h L (Nat.le_refl L))) ?_
  unfold ga_e
  grind
/-- one step of elimination: row j0 changes places with row r, is scaled by f, and clears the column c -/
def ga_St (Q R L c r j0 f : Nat) (A A' : Nat → Nat → Nat) : Prop :=
  r ≤ j0 ∧ j0 < R ∧ A j0 c * f % Q = 1 ∧ (∀ k, k ≤ L → A' r k = A j0 k * f % Q) ∧
  (∀ j, j < R → j ≠ r → ∀ k, k ≤ L → A' j k = (A (if j = j0 then r else j) k + Q * Q - A (if j = j0 then r else j) c * A' r k) % Q)
theorem ga_piv {Q R L c r j0 f : Nat} {A A' : Nat → Nat → Nat} (h : ga_St Q R L c r j0 f A A') (x : Nat → Int) :
    (Q : Int) ∣ ga_e L (ga_row A' r) x - (f : Int) * ga_e L (ga_row A j0) x := by
  have g := ga_lin (q := (Q : Int)) (L := L) (v := ga_row A' r) (u := ga_row A j0) (w := ga_row A j0) (x := x) (f : Int) 0 (fun k hk => by
    show (Q : Int) ∣ (A' r k : Int) - ((f : Int) * (A j0 k : Int) + 0 * (A j0 k : Int))
    rw [h.2.2.2.1 k hk]
    refine dv_eqv (dv_mod Q (A j0 k * f)) ?_
    rw [Int.natCast_mul, Int.zero_mul, Int.add_zero, Int.mul_comm (A j0 k : Int)])
  rwa [Int.zero_mul, Int.add_zero] at g
theorem ga_oth {Q R L c r j0 f : Nat} {A A' : Nat → Nat → Nat} (hA : ∀ j k, A j k < Q) (h : ga_St Q R L c r j0 f A A') (x : Nat → Int) {j : Nat} (hj : j < R) (hr : j ≠ r) :
    (Q : Int) ∣ ga_e L (ga_row A' j) x - (ga_e L (ga_row A (if j = j0 then r else j)) x - (A (if j = j0 then r else j) c : Int) * ga_e L (ga_row A' r) x) := by
  have hQ : 0 < Q := Nat.lt_of_le_of_lt (Nat.zero_le _) (hA 0 0)
  have g := ga_lin (q := (Q : Int)) (L := L) (v := ga_row A' j) (u := ga_row A (if j = j0 then r else j)) (w := ga_row A' r) (x := x) 1 (-(A (if j = j0 then r else j) c : Int)) (fun k hk => by
    show (Q : Int) ∣ (A' j k : Int) - (1 * (A (if j = j0 then r else j) k : Int) + -(A (if j = j0 then r else j) c : Int) * (A' r k : Int))
    rw [h.2.2.2.2 j hj hr k hk]
    have hb : A' r k < Q := by rw [h.2.2.2.1 k hk]; exact Nat.mod_lt _ hQ
    refine dv_eqv (dv_wrap (Q := Q) (a := A (if j = j0 then r else j) k) (hA (if j = j0 then r else j) c) hb) ?_
    rw [Int.one_mul, Int.neg_mul]
    omega)
  refine dv_eqv g ?_
  rw [Int.one_mul, Int.neg_mul]
  omega
theorem ga_same {Q R L c r j0 f : Nat} {A A' : Nat → Nat → Nat} (hA : ∀ j k, A j k < Q) (h : ga_St Q R L c r j0 f A A') (x : Nat → Int) : ga_Sol Q R L A' x ↔ ga_Sol Q R L A x := by
  have hr := h.1
  have hj := h.2.1
  have hp := ga_piv h x
  constructor
  · intro H
    have p0 := H r (by omega)
    have z0 : (Q : Int) ∣ ga_e L (ga_row A j0) x := by
      have z1 := Int.dvd_sub p0 hp
      have z2 : (Q : Int) ∣ (f : Int) * ga_e L (ga_row A j0) x := dv_eqv z1 (by omega)
      have z3 := dv_l (A j0 c : Int) z2
      have z4 := dv_l (ga_e L (ga_row A j0) x) (dv_of h.2.2.1)
      refine dv_eqv (Int.dvd_sub z3 z4) ?_
      rw [Int.natCast_mul]
      generalize ga_e L (ga_row A j0) x = E
      generalize (A j0 c : Int) = a
      generalize (f : Int) = b
      show a * (b * E) - E * (a * b - ((1 : Nat) : Int)) = E
      grind
    have z1 : ∀ j, j < R → j ≠ r → (Q : Int) ∣ ga_e L (ga_row A (if j = j0 then r else j)) x := by
      intro j h1 h2
      have y1 := ga_oth hA h x h1 h2
      have y2 := dv_l (A (if j = j0 then r else j) c : Int) p0
      exact dv_eqv (dv_add (Int.dvd_sub (H j h1) y1) y2) (by omega)
    intro i hi
    by_cases c1 : i = j0
    · rw [c1]; exact z0
    · by_cases c2 : i = r
      · have y := z1 j0 hj (by omega)
        rw [if_pos rfl] at y
        rw [c2]; exact y
      · have y := z1 i hi c2
        rw [if_neg c1] at y
        exact y
  · intro H j hj'
    have p0 : (Q : Int) ∣ ga_e L (ga_row A' r) x := dv_eqv (dv_add hp (dv_l (f : Int) (H j0 hj))) (by omega)
    by_cases c1 : j = r
    · rw [c1]; exact p0
    · have y1 := ga_oth hA h x hj' c1
      have y2 := dv_l (A (if j = j0 then r else j) c : Int) p0
      have y3 : (Q : Int) ∣ ga_e L (ga_row A (if j = j0 then r else j)) x := by
        apply H
        by_cases c2 : j = j0
        · rw [if_pos c2]; omega
        · rw [if_neg c2]; exact hj'
      exact dv_eqv (dv_add y1 (Int.dvd_sub y3 y2)) (by omega)

/-! the elimination's invariant: the columns from c on are done; g i - 1 is the pivot's row of column i (g i = 0: none) -/
def ga_Pv (R L r : Nat) (A : Nat → Nat → Nat) (g : Nat → Nat) (k : Nat) : Prop :=
  g k ≤ r ∧ A (g k - 1) k = 1 ∧ (∀ j, j < R → j ≠ g k - 1 → A j k = 0) ∧ (∀ k', k < k' → k' < L → A (g k - 1) k' = 0)
def ga_I (Q R L c r : Nat) (A A0 : Nat → Nat → Nat) (g : Nat → Nat) : Prop :=
  r ≤ R ∧ (∀ x, ga_Sol Q R L A x ↔ ga_Sol Q R L A0 x) ∧ (∀ j, r ≤ j → j < R → ∀ k, c ≤ k → k < L → A j k = 0) ∧
  (∀ k, k < c → g k = 0) ∧ (∀ k, c ≤ k → k < L → g k ≠ 0 → ga_Pv R L r A g k) ∧
  (∀ p, p < r → ∃ k, c ≤ k ∧ k < L ∧ g k = p + 1) ∧ rl_S (fun i => if g i = 0 then 0 else 1) L = r
theorem ga_init (Q R L : Nat) (A : Nat → Nat → Nat) : ga_I Q R L L 0 A A (fun _ => 0) := by
  refine ⟨Nat.zero_le _, fun _ => Iff.rfl, fun j _ _ k h1 h2 => absurd h1 (by omega), fun _ _ => rfl, fun k h1 h2 => absurd h1 (by omega), fun p hp => absurd hp (by omega), ?_⟩
  have h := rl_Sle (f := fun i => if (fun _ : Nat => 0) i = 0 then 0 else 1) (B := 0) L (fun i _ => Nat.le_of_eq (if_pos rfl))
  omega
theorem ga_skip {Q R L c r : Nat} {A A0 : Nat → Nat → Nat} {g : Nat → Nat} (h : ga_I Q R L (c + 1) r A A0 g) (hz : ∀ j, r ≤ j → j < R → A j c = 0) : ga_I Q R L c r A A0 g := by
  obtain ⟨h1, h2, h3, h4, h5, h6, h7⟩ := h
  refine ⟨h1, h2, fun j a b k d e => ?_, fun k hk => h4 k (by omega), fun k a b d => ?_, fun p hp => ?_, h7⟩
  · by_cases c1 : k = c
    · rw [c1]; exact hz j a b
    · exact h3 j a b k (by omega) e
  · by_cases c1 : k = c
    · exact absurd (h4 k (by omega)) d
    · exact h5 k (by omega) b d
  · obtain ⟨k, a, b, d⟩ := h6 p hp
    exact ⟨k, by omega, b, d⟩
theorem ga_cnt {g : Nat → Nat} {c v : Nat} (hv : v ≠ 0) (hg : g c = 0) : ∀ L, rl_S (fun i => if rl_u g c v i = 0 then 0 else 1) L = rl_S (fun i => if g i = 0 then 0 else 1) L + (if c < L then 1 else 0) := by
  intro L
  induction L with
  | zero => rfl
  | succ L ih =>
    rw [rl_Ss, rl_Ss, ih]
    by_cases e : L = c
    · subst e
      rw [rl_us, if_neg hv, if_neg (Nat.lt_irrefl L), if_pos (Nat.lt_succ_self L), hg, if_pos rfl]
    · rw [rl_un e]
      by_cases e2 : c < L
      · rw [if_pos e2, if_pos (show c < L + 1 by omega)]; omega
      · rw [if_neg e2, if_neg (show ¬ c < L + 1 by omega)]; omega
theorem ga_pivot {Q R L c r j0 f : Nat} {A A' A0 : Nat → Nat → Nat} {g : Nat → Nat} (hA : ∀ j k, A j k < Q) (hc : c < L) (h : ga_I Q R L (c + 1) r A A0 g) (hs : ga_St Q R L c r j0 f A A') :
    ga_I Q R L c (r + 1) A' A0 (rl_u g c (r + 1)) := by
  obtain ⟨h1, h2, h3, h4, h5, h6, h7⟩ := h
  have hsame := ga_same hA hs
  obtain ⟨s1, s2, s3, s4, s5⟩ := hs
  have kp : ∀ k, c < k → k < L → A' r k = 0 := by
    intro k a b
    rw [s4 k (by omega), h3 j0 s1 s2 k (by omega) b, Nat.zero_mul, Nat.zero_mod]
  have ko : ∀ j, j < R → ∀ k, c < k → k < L → A' j k = A j k := by
    intro j hj k a b
    by_cases c1 : j = r
    · rw [c1, kp k a b, h3 r (Nat.le_refl r) (by omega) k (by omega) b]
    · rw [s5 j hj c1 k (by omega), kp k a b, dv_wrap0 (hA _ _) rfl]
      by_cases c2 : j = j0
      · rw [if_pos c2, c2, h3 r (Nat.le_refl r) (by omega) k (by omega) b, h3 j0 s1 s2 k (by omega) b]
      · rw [if_neg c2]
  have kc : A' r c = 1 := by rw [s4 c (by omega)]; exact s3
  have kz : ∀ j, j < R → j ≠ r → A' j c = 0 := by
    intro j hj c1
    rw [s5 j hj c1 c (by omega), kc, Nat.mul_one, Nat.add_sub_cancel_left, Nat.mul_mod_right]
  refine ⟨by omega, fun x => (hsame x).trans (h2 x), fun j a b k d e => ?_, fun k hk => ?_, fun k a b d => ?_, fun p hp => ?_, ?_⟩
  · by_cases c1 : k = c
    · rw [c1]; exact kz j b (by omega)
    · rw [ko j b k (by omega) e]
      exact h3 j (by omega) b k (by omega) e
  · rw [rl_un (by omega)]; exact h4 k (by omega)
  · by_cases c1 : k = c
    · subst c1
      unfold ga_Pv
      rw [rl_us, Nat.add_sub_cancel]
      exact ⟨Nat.le_refl _, kc, kz, kp⟩
    · rw [rl_un c1] at d
      obtain ⟨p1, p2, p3, p4⟩ := h5 k (by omega) b d
      unfold ga_Pv
      rw [rl_un c1]
      refine ⟨by omega, ?_, fun j hj e => ?_, fun k' a' b' => ?_⟩
      · rw [ko _ (by omega) k (by omega) b]; exact p2
      · rw [ko j hj k (by omega) b]; exact p3 j hj e
      · rw [ko _ (by omega) k' (by omega) b']; exact p4 k' a' b'
  · by_cases c1 : p = r
    · exact ⟨c, Nat.le_refl c, hc, by rw [rl_us, c1]⟩
    · obtain ⟨k, a, b, d⟩ := h6 p (by omega)
      exact ⟨k, by omega, b, by rw [rl_un (by omega)]; exact d⟩
  · rw [ga_cnt (by omega) (h4 c (by omega)), h7, if_pos hc]

/-! the solutions, once all columns are done: column by column -/
def ga_T (Q L : Nat) (A : Nat → Nat → Nat) (g : Nat → Nat) (x : Nat → Int) (i : Nat) : Prop :=
  g i ≠ 0 → (Q : Int) ∣ sm_I (fun c => (A (g i - 1) c : Int) * x c) i + x i - (A (g i - 1) L : Int)
theorem ga_rowT {Q R L r : Nat} {A : Nat → Nat → Nat} {g : Nat → Nat} {i : Nat} (hi : i < L) (h : ga_Pv R L r A g i) (x : Nat → Int) :
    ga_e L (ga_row A (g i - 1)) x = sm_I (fun c => (A (g i - 1) c : Int) * x c) i + x i - (A (g i - 1) L : Int) := by
  unfold ga_e
  have e : sm_I (fun c => ga_row A (g i - 1) c * x c) L = sm_I (fun c => (A (g i - 1) c : Int) * x c) (i + 1) := by
    refine sm_ext (by omega) (fun k h1 h2 => ?_)
    show (A (g i - 1) k : Int) * x k = 0
    rw [h.2.2.2 k (by omega) h2]
    exact Int.zero_mul _
  rw [e, sm_s, h.2.1]
  show _ + ((1 : Nat) : Int) * x i - (A (g i - 1) L : Int) = _
  rw [Int.natCast_one, Int.one_mul]
theorem ga_tri {Q R L r : Nat} {A A0 : Nat → Nat → Nat} {g : Nat → Nat} (h : ga_I Q R L 0 r A A0 g) (hex : ∃ x, ga_Sol Q R L A0 x) (x : Nat → Int) :
    ga_Sol Q R L A0 x ↔ ∀ i, i < L → ga_T Q L A g x i := by
  obtain ⟨h1, h2, h3, h4, h5, h6, h7⟩ := h
  rw [← h2 x]
  constructor
  · intro H i hi hg
    have hp := h5 i (Nat.zero_le _) hi hg
    rw [← ga_rowT (Q := Q) hi hp x]
    exact H (g i - 1) (by have := hp.1; omega)
  · intro H j hj
    by_cases c : j < r
    · obtain ⟨k, -, b, e⟩ := h6 j c
      have hp := h5 k (Nat.zero_le _) b (by omega)
      have t := H k b (by omega)
      rw [← ga_rowT (Q := Q) b hp x, e, Nat.add_sub_cancel] at t
      exact t
    · obtain ⟨x0, hx0⟩ := hex
      have hx1 := ((h2 x0).mpr hx0) j hj
      have ez : ∀ y : Nat → Int, ga_e L (ga_row A j) y = -(A j L : Int) := by
        intro y
        unfold ga_e
        rw [sm_zero (fun k hk => by
          show (A j k : Int) * y k = 0
          rw [h3 j (by omega) hj k (Nat.zero_le _) hk]
          exact Int.zero_mul _)]
        show (0 : Int) - (A j L : Int) = _
        omega
      rw [ez] at hx1 ⊢
      exact hx1
/-- the least solution: nothing where a column is open, else the right side -/
def ga_Y (L : Nat) (A : Nat → Nat → Nat) (g : Nat → Nat) (i : Nat) : Nat := if g i = 0 then 0 else A (g i - 1) L
theorem ga_YT {Q R L r : Nat} {A A0 : Nat → Nat → Nat} {g : Nat → Nat} (h : ga_I Q R L 0 r A A0 g) {x : Nat → Int} (hx : ∀ i, i < L → x i = (ga_Y L A g i : Int)) {i : Nat} (hi : i < L) : ga_T Q L A g x i := by
  obtain ⟨h1, h2, h3, h4, h5, h6, h7⟩ := h
  intro hg
  have hp := h5 i (Nat.zero_le _) hi hg
  have z : sm_I (fun c => (A (g i - 1) c : Int) * x c) i = 0 := by
    refine sm_zero (fun c hc => ?_)
    show (A (g i - 1) c : Int) * x c = 0
    by_cases e : g c = 0
    · rw [hx c (by omega)]
      unfold ga_Y
      rw [if_pos e]
      exact Int.mul_zero _
    · have hq := h5 c (Nat.zero_le _) (by omega) e
      have ne : g i - 1 ≠ g c - 1 := by
        intro z
        have a := hq.2.2.2 i hc hi
        rw [← z, hp.2.1] at a
        exact absurd a (by decide)
      rw [hq.2.2.1 (g i - 1) (by have := hp.1; omega) ne]
      exact Int.zero_mul _
  rw [z, hx i hi]
  unfold ga_Y
  rw [if_neg hg, Int.zero_add, Int.sub_self]
  exact Int.dvd_zero _
/-- every solution is that one or comes later -/
theorem ga_lex {Q L : Nat} {A : Nat → Nat → Nat} {g X Y : Nat → Nat} (hX : rl_R Q X) (hY : rl_R Q Y) (TX : ∀ i, i < L → ga_T Q L A g (fun i => (X (i + 1) : Int)) i) (TY : ∀ i, i < L → ga_T Q L A g (fun i => (Y (i + 1) : Int)) i)
    (fr : ∀ i, i < L → g i = 0 → Y (i + 1) = 0) : ∀ i, i ≤ L → (∀ t, 1 ≤ t → t ≤ i → X t = Y t) ∨ dg_pc Q Y i < dg_pc Q X i := by
  intro i
  induction i with
  | zero => intro _; exact Or.inl (fun t h1 h2 => absurd h1 (by omega))
  | succ i ih =>
    intro hi
    rcases ih (by omega) with h | h
    · have e : dg_pc Q X i = dg_pc Q Y i := dg_cong i h
      by_cases c : X (i + 1) = Y (i + 1)
      · refine Or.inl (fun t h1 h2 => ?_)
        by_cases c2 : t = i + 1
        · rw [c2]; exact c
        · exact h t h1 (by omega)
      · by_cases hg : g i = 0
        · have := fr i (by omega) hg
          refine Or.inr ?_
          rw [dg_s, dg_s, e]
          omega
        · exfalso
          have a : (Q : Int) ∣ sm_I (fun c => (A (g i - 1) c : Int) * (X (c + 1) : Int)) i + (X (i + 1) : Int) - (A (g i - 1) L : Int) := TX i (by omega) hg
          have b : (Q : Int) ∣ sm_I (fun c => (A (g i - 1) c : Int) * (Y (c + 1) : Int)) i + (Y (i + 1) : Int) - (A (g i - 1) L : Int) := TY i (by omega) hg
          have es : sm_I (fun c => (A (g i - 1) c : Int) * (X (c + 1) : Int)) i = sm_I (fun c => (A (g i - 1) c : Int) * (Y (c + 1) : Int)) i :=
            sm_congr (fun t ht => by rw [h (t + 1) (by omega) (by omega)])
          have d : (Q : Int) ∣ (X (i + 1) : Int) - (Y (i + 1) : Int) := by
            refine dv_eqv (Int.dvd_sub a b) ?_
            rw [es]
            omega
          exact c (dv_eq (hX _) (hY _) d)
    · refine Or.inr ?_
      rw [dg_s, dg_s]
      have h1 : (dg_pc Q Y i + 1) * Q ≤ dg_pc Q X i * Q := Nat.mul_le_mul_right Q h
      have h2 := hY (i + 1)
      rw [Nat.succ_mul] at h1
      omega
end
section
/-! counting -/
noncomputable def cn_b (P : Prop) : Nat := @ite Nat P (Classical.propDecidable P) 1 0
theorem cn_t {P : Prop} (h : P) : cn_b P = 1 := by unfold cn_b; rw [if_pos h]
theorem cn_f {P : Prop} (h : ¬ P) : cn_b P = 0 := by unfold cn_b; rw [if_neg h]
theorem cn_iff {P R : Prop} (h : P ↔ R) : cn_b P = cn_b R := by
  rcases Classical.em P with p | p
  · rw [cn_t p, cn_t (h.mp p)]
  · rw [cn_f p, cn_f (fun r => p (h.mpr r))]
theorem cn_split (f : Nat → Nat) (m n : Nat) : rl_S f (m + n) = rl_S f m + rl_S (fun i => f (m + i)) n := by
  induction n with
  | zero => rfl
  | succ n ih => rw [← Nat.add_assoc, rl_Ss, rl_Ss, ih, Nat.add_assoc]
theorem cn_mul (f : Nat → Nat) (Q : Nat) : ∀ a, rl_S f (a * Q) = rl_S (fun m => rl_S (fun d => f (m * Q + d)) Q) a := by
  intro a
  induction a with
  | zero => rw [Nat.zero_mul]; rfl
  | succ a ih => rw [Nat.succ_mul, cn_split, ih, rl_Ss]
theorem cn_const (v : Nat) : ∀ n, rl_S (fun _ => v) n = v * n := by
  intro n
  induction n with
  | zero => rfl
  | succ n ih => rw [rl_Ss, ih, Nat.mul_succ]
theorem cn_scal (f : Nat → Nat) (v : Nat) : ∀ n, rl_S (fun i => f i * v) n = rl_S f n * v := by
  intro n
  induction n with
  | zero => exact (Nat.zero_mul v).symm
  | succ n ih => rw [rl_Ss, rl_Ss, ih, Nat.add_mul]
theorem cn_none {f : Nat → Nat} : ∀ n, (∀ i, i < n → f i = 0) → rl_S f n = 0 := by
  intro n
  induction n with
  | zero => intro _; rfl
  | succ n ih => intro h; rw [rl_Ss, ih (fun i hi => h i (by omega)), h n (by omega)]
theorem cn_one {f : Nat → Nat} {d0 : Nat} : ∀ n, d0 < n → (∀ i, i < n → i ≠ d0 → f i = 0) → rl_S f n = f d0 := by
  intro n
  induction n with
  | zero => intro h; omega
  | succ n ih =>
    intro h hz
    rw [rl_Ss]
    by_cases e : n = d0
    · rw [cn_none n (fun i hi => hz i (by omega) (by omega)), e, Nat.zero_add]
    · rw [ih (by omega) (fun i hi => hz i (by omega)), hz n (by omega) e, Nat.add_zero]
/-- one residue makes e + d divisible -/
theorem cn_res {Q : Nat} (hQ : 0 < Q) (e : Int) : ∃ d, d < Q ∧ (Q : Int) ∣ e + (d : Int) := by
  have h1 : 0 ≤ (-e) % (Q : Int) := Int.emod_nonneg _ (by omega)
  have h2 : (-e) % (Q : Int) < (Q : Int) := Int.emod_lt_of_pos _ (by omega)
  refine ⟨((-e) % (Q : Int)).toNat, by omega, ?_⟩
  rw [Int.toNat_of_nonneg h1]
  refine ⟨-((-e) / (Q : Int)), ?_⟩
  have := Int.mul_ediv_add_emod (-e) (Q : Int)
  rw [Int.mul_neg]
  omega
theorem cn_res1 {Q : Nat} (hQ : 0 < Q) (e : Int) (P : Prop) : rl_S (fun d => cn_b (P ∧ (Q : Int) ∣ e + (d : Int))) Q = cn_b P := by
  obtain ⟨d0, h1, h2⟩ := cn_res hQ e
  rw [cn_one (d0 := d0) Q h1 (fun i hi ne => cn_f (fun z => ne (dv_eq hi h1 (dv_eqv (Int.dvd_sub z.2 h2) (by omega)))))]
  exact cn_iff ⟨fun z => z.1, fun z => ⟨z, h2⟩⟩

/-! the codes whose digits answer the equations -/
theorem cn_low {Q : Nat} (hQ : 0 < Q) {i m d : Nat} (hd : d < Q) {c : Nat} (hc : c < i) : dg_D Q (i + 1) (m * Q + d) (c + 1) = dg_D Q i m (c + 1) := by
  show (m * Q + d) / Q ^ (i + 1 - (c + 1)) % Q = m / Q ^ (i - (c + 1)) % Q
  rw [show i + 1 - (c + 1) = (i - (c + 1)) + 1 by omega, Nat.pow_succ, Nat.mul_comm (Q ^ (i - (c + 1))) Q, ← Nat.div_div_eq_div_mul, Nat.mul_comm m Q, Nat.mul_add_div hQ, Nat.div_eq_of_lt hd, Nat.add_zero]
theorem cn_top {Q : Nat} {i m d : Nat} (hd : d < Q) : dg_D Q (i + 1) (m * Q + d) (i + 1) = d := by
  show (m * Q + d) / Q ^ (i + 1 - (i + 1)) % Q = d
  rw [Nat.sub_self, Nat.pow_zero, Nat.div_one, Nat.mul_comm, Nat.mul_add_mod, Nat.mod_eq_of_lt hd]
theorem cn_Tc {Q L : Nat} {A : Nat → Nat → Nat} {g : Nat → Nat} {x y : Nat → Int} {i : Nat} (h : ∀ c, c ≤ i → x c = y c) (t : ga_T Q L A g x i) : ga_T Q L A g y i := by
  intro hg
  have := t hg
  rw [sm_congr (g := fun c => (A (g i - 1) c : Int) * y c) (fun c hc => by rw [h c (by omega)]), h i (Nat.le_refl i)] at this
  exact this
theorem cn_pre {Q L : Nat} (hQ : 0 < Q) {A : Nat → Nat → Nat} {g : Nat → Nat} {i m d : Nat} (hd : d < Q) :
    (∀ t, t < i + 1 → ga_T Q L A g (fun c => (dg_D Q (i + 1) (m * Q + d) (c + 1) : Int)) t) ↔
    ((∀ t, t < i → ga_T Q L A g (fun c => (dg_D Q i m (c + 1) : Int)) t) ∧ (g i ≠ 0 → (Q : Int) ∣ (sm_I (fun c => (A (g i - 1) c : Int) * (dg_D Q i m (c + 1) : Int)) i - (A (g i - 1) L : Int)) + (d : Int))) := by
  have lo : ∀ c, c < i → (dg_D Q (i + 1) (m * Q + d) (c + 1) : Int) = (dg_D Q i m (c + 1) : Int) := fun c hc => by rw [cn_low hQ hd hc]
  have es : sm_I (fun c => (A (g i - 1) c : Int) * (dg_D Q (i + 1) (m * Q + d) (c + 1) : Int)) i = sm_I (fun c => (A (g i - 1) c : Int) * (dg_D Q i m (c + 1) : Int)) i :=
    sm_congr (fun c hc => by rw [lo c hc])
  constructor
  · intro H
    refine ⟨fun t ht => cn_Tc (fun c hc => lo c (by omega)) (H t (by omega)), fun hg => ?_⟩
    have z : (Q : Int) ∣ sm_I (fun c => (A (g i - 1) c : Int) * (dg_D Q (i + 1) (m * Q + d) (c + 1) : Int)) i + (dg_D Q (i + 1) (m * Q + d) (i + 1) : Int) - (A (g i - 1) L : Int) := H i (by omega) hg
    rw [es, cn_top hd] at z
    exact dv_eqv z (by omega)
  · intro H t ht
    by_cases e : t = i
    · intro hg
      rw [e] at hg ⊢
      show (Q : Int) ∣ sm_I (fun c => (A (g i - 1) c : Int) * (dg_D Q (i + 1) (m * Q + d) (c + 1) : Int)) i + (dg_D Q (i + 1) (m * Q + d) (i + 1) : Int) - (A (g i - 1) L : Int)
      rw [es, cn_top hd]
      exact dv_eqv (H.2 hg) (by omega)
    · exact cn_Tc (fun c hc => (lo c (by omega)).symm) (H.1 t (by omega))
noncomputable def cn_K (Q L : Nat) (A : Nat → Nat → Nat) (g : Nat → Nat) (i : Nat) : Nat := rl_S (fun m => cn_b (∀ t, t < i → ga_T Q L A g (fun c => (dg_D Q i m (c + 1) : Int)) t)) (Q ^ i)
theorem cn_Ks {Q L : Nat} (hQ : 0 < Q) (A : Nat → Nat → Nat) (g : Nat → Nat) (i : Nat) : cn_K Q L A g (i + 1) = cn_K Q L A g i * (if g i = 0 then Q else 1) := by
  unfold cn_K
  rw [Nat.pow_succ, cn_mul, ← cn_scal]
  refine rl_Scongr _ (fun m _ => ?_)
  have e : rl_S (fun d => cn_b (∀ t, t < i + 1 → ga_T Q L A g (fun c => (dg_D Q (i + 1) (m * Q + d) (c + 1) : Int)) t)) Q =
      rl_S (fun d => cn_b ((∀ t, t < i → ga_T Q L A g (fun c => (dg_D Q i m (c + 1) : Int)) t) ∧ (g i ≠ 0 → (Q : Int) ∣ (sm_I (fun c => (A (g i - 1) c : Int) * (dg_D Q i m (c + 1) : Int)) i - (A (g i - 1) L : Int)) + (d : Int)))) Q :=
    rl_Scongr Q (fun d hd => cn_iff (cn_pre hQ hd))
  rw [e]
  by_cases hg : g i = 0
  · rw [if_pos hg, ← cn_const]
    exact rl_Scongr Q (fun d _ => cn_iff ⟨fun z => z.1, fun z => ⟨z, fun y => absurd hg y⟩⟩)
  · rw [if_neg hg, Nat.mul_one, ← cn_res1 hQ (sm_I (fun c => (A (g i - 1) c : Int) * (dg_D Q i m (c + 1) : Int)) i - (A (g i - 1) L : Int))]
    exact rl_Scongr Q (fun d _ => cn_iff ⟨fun z => ⟨z.1, z.2 hg⟩, fun z => ⟨z.1, fun _ => z.2⟩⟩)
theorem cn_Kall {Q L : Nat} (hQ : 0 < Q) (A : Nat → Nat → Nat) (g : Nat → Nat) : ∀ i, cn_K Q L A g i = Q ^ (i - rl_S (fun i => if g i = 0 then 0 else 1) i) ∧ rl_S (fun i => if g i = 0 then 0 else 1) i ≤ i := by
  intro i
  induction i with
  | zero =>
    refine ⟨?_, Nat.le_refl 0⟩
    show 0 + cn_b _ = Q ^ (0 - 0)
    rw [cn_t (fun t ht => absurd ht (by omega))]
    rfl
  | succ i ih =>
    rw [cn_Ks hQ, ih.1, rl_Ss]
    have h := ih.2
    by_cases hg : g i = 0
    · rw [if_pos hg, if_pos hg, Nat.add_zero, ← Nat.pow_succ]
      exact ⟨congrArg (fun t => Q ^ t) (by omega), by omega⟩
    · rw [if_neg hg, if_neg hg, Nat.mul_one]
      exact ⟨congrArg (fun t => Q ^ t) (by omega), by omega⟩

/-! the equations of a sequence -/
def cn_A0 (s : Nat → Nat) (R L : Nat) (A : Nat → Nat → Nat) : Prop := ∀ j, j < R → (∀ c, c < L → A j c = s (L + j - (c + 1))) ∧ A j L = s (L + j)
theorem cn_gen {Q k L : Nat} {s : Nat → Nat} {A : Nat → Nat → Nat} (hs : rl_R Q s) (hL : L ≤ k) (hA : cn_A0 s (k - L) L A) (c : Nat → Nat) : rg_Gen Q s k L c ↔ ga_Sol Q (k - L) L A (fun i => (c (i + 1) : Int)) := by
  have e : ∀ j, j < k - L → ga_e L (ga_row A j) (fun i => (c (i + 1) : Int)) = ((rl_S (fun i => c (i + 1) * s (L + j - (i + 1))) L : Nat) : Int) - (s (L + j) : Int) := by
    intro j hj
    unfold ga_e
    rw [sm_cast]
    have h2 : ga_row A j L = (s (L + j) : Int) := by show (A j L : Int) = _; rw [(hA j hj).2]
    rw [h2]
    refine congrArg (· - (s (L + j) : Int)) (sm_congr (fun i hi => ?_))
    show (A j i : Int) * (c (i + 1) : Int) = ((c (i + 1) * s (L + j - (i + 1)) : Nat) : Int)
    rw [(hA j hj).1 i hi, Int.natCast_mul, Int.mul_comm]
  constructor
  · intro h j hj
    rw [e j hj]
    exact dv_of (h (L + j) (by omega) (by omega))
  · intro h j h1 h2
    have z := h (j - L) (by omega)
    rw [e (j - L) (by omega), show L + (j - L) = j by omega] at z
    exact dv_to (hs j) z
/-- what X's findRegister leaves: the register rg and the rank r -/
def rg_F (Q : Nat) (s : Nat → Nat) (k L r : Nat) (rg : Nat → Nat) : Prop :=
  r ≤ L ∧ rg_Gen Q s k L rg ∧ (∀ x, rl_R Q x → rg_Gen Q s k L x → (∀ t, 1 ≤ t → t ≤ L → x t = rg t) ∨ dg_pc Q rg L < dg_pc Q x L) ∧
  rl_S (fun m => cn_b (rg_Gen Q s k L (dg_D Q L m))) (Q ^ L) = Q ^ (L - r)
theorem ga_end {Q k L r : Nat} {s rg : Nat → Nat} {A A0 : Nat → Nat → Nat} {g : Nat → Nat} (hQ : 0 < Q) (hs : rl_R Q s) (hL : L ≤ k) (hA : cn_A0 s (k - L) L A0) (hex : ∃ c, rg_Gen Q s k L c)
    (h : ga_I Q (k - L) L 0 r A A0 g) (hrg : rl_R Q rg) (hY : ∀ i, i < L → rg (i + 1) = ga_Y L A g i) : rg_F Q s k L r rg := by
  have ex : ∃ x, ga_Sol Q (k - L) L A0 x := by
    obtain ⟨c, hc⟩ := hex
    exact ⟨_, (cn_gen hs hL hA c).mp hc⟩
  have eq : ∀ c : Nat → Nat, rg_Gen Q s k L c ↔ ∀ i, i < L → ga_T Q L A g (fun i => (c (i + 1) : Int)) i := fun c => (cn_gen hs hL hA c).trans (ga_tri h ex _)
  have TY : ∀ i, i < L → ga_T Q L A g (fun i => (rg (i + 1) : Int)) i := fun i hi => ga_YT h (fun i hi => by rw [hY i hi]) hi
  have hr : rl_S (fun i => if g i = 0 then 0 else 1) L = r := h.2.2.2.2.2.2
  have hk := cn_Kall (L := L) hQ A g L
  rw [hr] at hk
  refine ⟨hk.2, (eq rg).mpr TY, fun x hx gx => ga_lex hx hrg ((eq x).mp gx) TY (fun i hi hg => ?_) L (Nat.le_refl L), ?_⟩
  · rw [hY i hi]
    unfold ga_Y
    exact if_pos hg
  · rw [← hk.1]
    unfold cn_K
    exact rl_Scongr _ (fun m _ => cn_iff (eq _))
end
section
/-! the reference's walks -/
theorem yw_fu {f d : Nat} (h : d < f) : ∃ f', f = f' + 1 := ⟨f - 1, by omega⟩
abbrev yw_F (c s : Nat → Nat) (j : Nat) : Nat → Nat := fun i => c (i + 1) * s (j - (i + 1))
theorem yw_Fle {Q L : Nat} {c s : Nat → Nat} (hQ : rl_Q Q) (hc : rl_R Q c) (hs : rl_R Q s) (j : Nat) (hL : L ≤ 13) : rl_S (yw_F c s j) L ≤ 208 := by
  have h := rl_Sle (f := yw_F c s j) (B := 16) L (fun i _ => rl_prod (rl_Q5 hQ) (hc _) (hs _))
  omega
theorem yw_pb {Q L : Nat} (hQ : rl_Q Q) (hL : L ≤ 13) : Q ^ L < 2 ^ 31 := by
  have h1 : Q ^ L ≤ 5 ^ L := Nat.pow_le_pow_left (rl_Q5 hQ) L
  have h2 : 5 ^ L ≤ 5 ^ 13 := Nat.pow_le_pow_right (by decide) hL
  have h3 : 5 ^ 13 < 2 ^ 31 := by decide
  omega
theorem yw_rest {Q x : Nat} {lim n : Int32} {s r c : Nat → Int32} {post : Int32 → Prop} (hQ : rl_Q Q) (hx : x < 2 ^ 31) (h : post (nI (x % Q))) : wpY_rest post (nI Q, lim, n, s, r, c) (nI x) := by
  rcases hQ with rfl | rfl | rfl
  · have e : nI x - nI x / 2 * 2 = nI (x % 2) := pk_rem (d := 2) hx (by decide) (by decide)
    exact br_t rfl ⟨by decide, by rw [e]; exact h⟩
  · have e : nI x - nI x / 3 * 3 = nI (x % 3) := pk_rem (d := 3) hx (by decide) (by decide)
    exact br_f (by decide) (br_t rfl ⟨by decide, by rw [e]; exact h⟩)
  · have e : nI x - nI x / 5 * 5 = nI (x % 5) := pk_rem (d := 5) hx (by decide) (by decide)
    exact br_f (by decide) (br_f (by decide) ⟨by decide, by rw [e]; exact h⟩)
theorem yw_part {Q x : Nat} {lim n : Int32} {s r c : Nat → Int32} {post : Int32 → Prop} (hQ : rl_Q Q) (hx : x < 2 ^ 31) (h : post (nI (x / Q))) : wpY_part post (nI Q, lim, n, s, r, c) (nI x) := by
  rcases hQ with rfl | rfl | rfl
  · have e : nI x / 2 = nI (x / 2) := pk_div (d := 2) hx (by decide) (by decide)
    exact br_t rfl ⟨by decide, by rw [e]; exact h⟩
  · have e : nI x / 3 = nI (x / 3) := pk_div (d := 3) hx (by decide) (by decide)
    exact br_f (by decide) (br_t rfl ⟨by decide, by rw [e]; exact h⟩)
  · have e : nI x / 5 = nI (x / 5) := pk_div (d := 5) hx (by decide) (by decide)
    exact br_f (by decide) (br_f (by decide) ⟨by decide, by rw [e]; exact h⟩)
theorem yw_pow4 {Q L : Nat} {lim n : Int32} {s r c : Nat → Int32} {post : Int32 → Prop} (hL : L < 2 ^ 31) (h : post (nI (Q ^ L))) : ∀ d i, i + d = L → ∀ f, d < f → wY_power_4 post (nI L) (nI Q) lim n s r c f (nI (Q ^ i)) (nI i) := by
  intro d
  induction d with
  | zero =>
    intro i hi f hf
    obtain ⟨f, rfl⟩ := yw_fu hf
    obtain rfl : i = L := by omega
    exact br_t (nI_le (Nat.le_refl i) hL) h
  | succ d ih =>
    intro i hi f hf
    obtain ⟨f, rfl⟩ := yw_fu hf
    refine br_f (nI_ge (by omega) hL) (nm_r (e' := nI (Q ^ (i + 1))) (pk_mul _ _) (nm_r (nI_1 i) ?_))
    exact ih (i + 1) (by omega) f (by omega)
theorem yw_power {Q L : Nat} {lim n : Int32} {s r c : Nat → Int32} {post : Int32 → Prop} (hL : L < 2 ^ 31) (h : post (nI (Q ^ L))) : wpY_power post (nI Q, lim, n, s, r, c) (nI L) := by
  have k := yw_pow4 (lim := lim) (n := n) (s := s) (r := r) (c := c) hL h L 0 (by omega) (L + 1) (by omega)
  rw [Nat.pow_zero] at k
  exact Exists.intro _ k
theorem yw_sp5 {Q : Nat} {lim n : Int32} {s r : Nat → Int32} (hQ : rl_Q Q) {post : SY → Prop} : ∀ (L code : Nat) (c : Nat → Nat), L ≤ 13 → code < 2 ^ 31 → rl_R Q c →
    (∀ c', rl_R Q c' → (∀ i, 1 ≤ i → i ≤ L → c' i = dg_D Q L code i) → (∀ i, L < i → c' i = c i) → post (nI Q, lim, n, s, r, rl_A c')) →
    ∀ f, L < f → wY_spell_5 post (nI Q) lim n f (nI code) (nI L) s r (rl_A c) := by
  intro L
  induction L with
  | zero =>
    intro code c _ _ hc h f hf
    obtain ⟨f, rfl⟩ := yw_fu hf
    exact br_t (show nI 0 < 1 by decide) (h c hc (fun i h1 h2 => absurd h1 (by omega)) (fun _ _ => rfl))
  | succ L ih =>
    intro code c hL hx hc h f hf
    obtain ⟨f, rfl⟩ := yw_fu hf
    have q2 := rl_Q2 hQ
    refine br_f (nI_nlt (b := 1) (by omega) (by omega)) ?_
    refine yw_rest hQ hx ?_
    refine ⟨vp_in_nI (by omega) (by omega), rl_st (L + 1) (code % Q) rfl (by omega) rfl ?_⟩
    refine yw_part hQ hx ?_
    refine nm_r (pk_m1 L) ?_
    refine ih (code / Q) (rl_u c (L + 1) (code % Q)) (by omega) (Nat.lt_of_le_of_lt (Nat.div_le_self _ _) hx) (rl_Ru hc (Nat.mod_lt _ (by omega))) ?_ f (by omega)
    intro c' h1 h2 h3
    refine h c' h1 (fun i a b => ?_) (fun i a => by rw [h3 i (by omega), rl_un (by omega)])
    by_cases e : i = L + 1
    · rw [h3 i (by omega), e, rl_us]
      show _ = code / Q ^ (L + 1 - (L + 1)) % Q
      rw [Nat.sub_self, Nat.pow_zero, Nat.div_one]
    · rw [h2 i a (by omega)]
      show code / Q / Q ^ (L - i) % Q = code / Q ^ (L + 1 - i) % Q
      rw [Nat.div_div_eq_div_mul, show L + 1 - i = (L - i) + 1 by omega, Nat.pow_succ, Nat.mul_comm Q]
theorem yw_spell {Q L code : Nat} {lim n : Int32} {s r : Nat → Int32} {c : Nat → Nat} {post : SY → Prop} (hQ : rl_Q Q) (hL : L ≤ 13) (hx : code < 2 ^ 31) (hc : rl_R Q c)
    (h : ∀ c', rl_R Q c' → (∀ i, 1 ≤ i → i ≤ L → c' i = dg_D Q L code i) → post (nI Q, lim, n, s, r, rl_A c')) : wpY_spell post (nI Q, lim, n, s, r, rl_A c) (nI code) (nI L) :=
  Exists.intro (L + 1) (yw_sp5 hQ L code c hL hx hc (fun c' h1 h2 _ => h c' h1 h2) (L + 1) (by omega))
theorem yw_sum5 {Q j L : Nat} {lim n : Int32} {s : Nat → Int32} {r c : Nat → Nat} {post : Int32 → Prop} (hQ : rl_Q Q) (hr : rl_R Q r) (hc : rl_R Q c) (hL : L ≤ 13) (hj : L ≤ j) (hj2 : j < 60)
    (h : post (nI (rl_S (yw_F c r j) L % Q))) : ∀ d i, i + d = L → ∀ f, d < f → wY_sum_5 post (nI j) (nI L) (nI Q) lim n s (rl_A r) (rl_A c) f (nI (rl_S (yw_F c r j) i)) (nI (i + 1)) := by
  intro d
  induction d with
  | zero =>
    intro i hi f hf
    obtain ⟨f, rfl⟩ := yw_fu hf
    obtain rfl : i = L := by omega
    have hb := yw_Fle hQ hc hr j hL
    exact br_t (nI_lt (by omega) (by omega)) (yw_rest hQ (by omega) h)
  | succ d ih =>
    intro i hi f hf
    obtain ⟨f, rfl⟩ := yw_fu hf
    refine br_f (nI_nlt (by omega) (by omega)) ⟨vp_in_nI (by omega) (by omega), pk_in (j - (i + 1)) 60 (by omega) (pk_sub (by omega)), ?_⟩
    refine nm_r (e' := nI (rl_S (yw_F c r j) (i + 1))) ?_ (nm_r (nI_1 (i + 1)) ?_)
    · rw [rl_get (i + 1) rfl (by omega), rl_get (j - (i + 1)) (pk_sub (by omega)) (by omega), pk_mul, nI_add]
      rfl
    · exact ih (i + 1) (by omega) f (by omega)
theorem yw_sum {Q j L : Nat} {lim n : Int32} {s : Nat → Int32} {r c : Nat → Nat} {post : Int32 → Prop} (hQ : rl_Q Q) (hr : rl_R Q r) (hc : rl_R Q c) (hL : L ≤ 13) (hj : L ≤ j) (hj2 : j < 60)
    (h : post (nI (rl_S (yw_F c r j) L % Q))) : wpY_sum post (nI Q, lim, n, s, rl_A r, rl_A c) (nI j) (nI L) :=
  Exists.intro (L + 1) (yw_sum5 hQ hr hc hL hj hj2 h L 0 (by omega) (L + 1) (by omega))
theorem yw_gen2 {Q k L : Nat} {lim n : Int32} {s : Nat → Int32} {r c : Nat → Nat} {post : Int32 → Prop} (hQ : rl_Q Q) (hr : rl_R Q r) (hc : rl_R Q c) (hL : L ≤ 13) (hk : k ≤ 60)
    (h1 : rg_Gen Q r k L c → post 1) (h0 : ¬ rg_Gen Q r k L c → post 0) : ∀ d j, j + d = k → L ≤ j → (∀ i, L ≤ i → i < j → rl_S (yw_F c r i) L % Q = r i) →
    ∀ f, d < f → wY_generates_2 post (nI L) (nI k) (nI Q) lim n s (rl_A r) (rl_A c) f (nI j) := by
  intro d
  induction d with
  | zero =>
    intro j hj hLj hh f hf
    obtain ⟨f, rfl⟩ := yw_fu hf
    exact br_t (nI_le (by omega) (by omega)) (h1 (fun i a b => hh i a (by omega)))
  | succ d ih =>
    intro j hj hLj hh f hf
    obtain ⟨f, rfl⟩ := yw_fu hf
    have q5 := rl_Q5 hQ
    have b1 : rl_S (yw_F c r j) L % Q < Q := Nat.mod_lt _ (by have := rl_Q2 hQ; omega)
    have b2 := hr j
    refine br_f (nI_ge (by omega) (by omega)) (yw_sum hQ hr hc hL hLj (by omega) ⟨vp_in_nI (by omega) (by omega), ?_⟩)
    refine pk_eq (rl_S (yw_F c r j) L % Q) (r j) (fun e => nm_r (nI_1 j) (ih (j + 1) (by omega) (by omega) (fun i a b => ?_) f (by omega))) (fun e => h0 (fun g => e (g j hLj (by omega)))) rfl (rl_get j rfl (by omega)) (by omega) (by omega)
    by_cases c1 : i = j
    · rw [c1]; exact e
    · exact hh i a (by omega)
theorem yw_gen {Q k L : Nat} {lim n : Int32} {s : Nat → Int32} {r c : Nat → Nat} {post : Int32 → Prop} (hQ : rl_Q Q) (hr : rl_R Q r) (hc : rl_R Q c) (hL : L ≤ 13) (hk : k ≤ 60) (hLk : L ≤ k)
    (h1 : rg_Gen Q r k L c → post 1) (h0 : ¬ rg_Gen Q r k L c → post 0) : wpY_generates post (nI Q, lim, n, s, rl_A r, rl_A c) (nI L) (nI k) :=
  Exists.intro (k - L + 1) (yw_gen2 hQ hr hc hL hk h1 h0 (k - L) L (by omega) (Nat.le_refl L) (fun i a b => absurd a (by omega)) (k - L + 1) (by omega))
theorem yw_l16 {Q k L : Nat} {lim n : Int32} {s : Nat → Int32} {r : Nat → Nat} {post : Int32 → SY → Prop} {J2 : Int32 → Int32 → Int32 → Int32 → (Nat → Int32) → (Nat → Int32) → (Nat → Int32) → Prop} (hQ : rl_Q Q) (hr : rl_R Q r) (hL : L < k) (hk : k ≤ 13)
    (hf : ∀ m c', m < Q ^ L → (∀ t, t < m → ¬ rg_Gen Q r k L (dg_D Q L t)) → rl_R Q c' → (∀ i, 1 ≤ i → i ≤ L → c' i = dg_D Q L m i) → rg_Gen Q r k L c' → post (nI L) (nI Q, lim, n, s, rl_A r, rl_A c'))
    (hn : ∀ c', rl_R Q c' → (∀ t, t < Q ^ L → ¬ rg_Gen Q r k L (dg_D Q L t)) → J2 (nI (L + 1)) (nI Q) lim n s (rl_A r) (rl_A c')) :
    ∀ d m c, m + d = Q ^ L → rl_R Q c → (∀ t, t < m → ¬ rg_Gen Q r k L (dg_D Q L t)) → ∀ f, d < f → wY_least_16 post J2 (nI k) (nI L) (nI (Q ^ L)) f (nI m) (nI Q) lim n s (rl_A r) (rl_A c) := by
  have hb := yw_pb hQ (L := L) (by omega)
  intro d
  induction d with
  | zero =>
    intro m c hm hc hh f hf
    obtain ⟨f, rfl⟩ := yw_fu hf
    exact br_t (nI_le (by omega) (by omega)) (nm_r (nI_1 L) (hn c hc (fun t ht => hh t (by omega))))
  | succ d ih =>
    intro m c hm hc hh f hf'
    obtain ⟨f, rfl⟩ := yw_fu hf'
    refine br_f (nI_ge (by omega) (by omega)) (yw_spell hQ (by omega) (by omega) hc (fun c' h1 h2 => ?_))
    refine yw_gen hQ hr h1 (by omega) (by omega) (by omega) (fun g => ?_) (fun g => ?_)
    · exact br_f (show ¬ (1 : Int32) = 0 by decide) (hf m c' (by omega) hh h1 h2 g)
    · refine br_t rfl (nm_r (nI_1 m) (ih (m + 1) c' (by omega) h1 (fun t ht => ?_) f (by omega)))
      by_cases c1 : t = m
      · rw [c1]; exact fun z => g (rg_cong h2 z)
      · exact hh t (by omega)
theorem yw_l2 {Q k : Nat} {lim n : Int32} {s : Nat → Int32} {r : Nat → Nat} {post : Int32 → SY → Prop} (hQ : rl_Q Q) (hr : rl_R Q r) (hk : k ≤ 13)
    (h : ∀ L m c', L ≤ k → (∀ M, M < L → ∀ t, t < Q ^ M → ¬ rg_Gen Q r k M (dg_D Q M t)) → m < Q ^ L → (∀ t, t < m → ¬ rg_Gen Q r k L (dg_D Q L t)) → rl_R Q c' → (∀ i, 1 ≤ i → i ≤ L → c' i = dg_D Q L m i) → rg_Gen Q r k L c' → post (nI L) (nI Q, lim, n, s, rl_A r, rl_A c')) :
    ∀ d L c, L + d = k → rl_R Q c → (∀ M, M < L → ∀ t, t < Q ^ M → ¬ rg_Gen Q r k M (dg_D Q M t)) → ∀ f, d < f → wY_least_2 post (nI k) f (nI L) (nI Q) lim n s (rl_A r) (rl_A c) := by
  have q2 := rl_Q2 hQ
  intro d
  induction d with
  | zero =>
    intro L c hL hc hh f hf
    obtain ⟨f, rfl⟩ := yw_fu hf
    obtain rfl : L = k := by omega
    refine br_t (nI_le (by omega) (by omega)) (yw_spell (code := 0) hQ (by omega) (by omega) hc (fun c' h1 h2 => ?_))
    exact h L 0 c' (Nat.le_refl L) hh (Nat.pow_pos (by omega)) (fun t ht => absurd ht (by omega)) h1 h2 (fun j a b => absurd a (by omega))
  | succ d ih =>
    intro L c hL hc hh f hf
    obtain ⟨f, rfl⟩ := yw_fu hf
    refine br_f (nI_ge (by omega) (by omega)) (yw_power (by omega) (Exists.intro (Q ^ L + 1) ?_))
    refine yw_l16 hQ hr (by omega) hk (fun m c' a b e g i => h L m c' (by omega) hh a b e g i) (fun c' a b => ?_) (Q ^ L) 0 c (by omega) hc (fun t ht => absurd ht (by omega)) (Q ^ L + 1) (by omega)
    refine ih (L + 1) c' (by omega) a (fun M hM => ?_) f (by omega)
    by_cases c1 : M = L
    · rw [c1]; exact b
    · exact hh M (by omega)
/-- what the reference's least leaves -/
def yw_O (Q : Nat) (r : Nat → Nat) (k L : Nat) (c : Nat → Nat) : Prop :=
  L ≤ k ∧ rg_LC Q r k L ∧ rl_R Q c ∧ rg_Gen Q r k L c ∧ ∀ x, rl_R Q x → rg_Gen Q r k L x → dg_pc Q c L ≤ dg_pc Q x L
theorem yw_least {Q k : Nat} {lim n p : Int32} {s : Nat → Int32} {r c : Nat → Nat} {post : Int32 → SY → Prop} (hQ : rl_Q Q) (hr : rl_R Q r) (hc : rl_R Q c) (hk : k ≤ 13) (hp : p = nI k)
    (h : ∀ L c', yw_O Q r k L c' → post (nI L) (nI Q, lim, n, s, rl_A r, rl_A c')) : wpY_least post (nI Q, lim, n, s, rl_A r, rl_A c) p := by
  have q2 : 0 < Q := by have := rl_Q2 hQ; omega
  subst hp
  have key := yw_l2 (lim := lim) (n := n) (s := s) (post := post) hQ hr hk (fun L m c' h1 h2 h3 h4 h5 h6 h7 => h L c' ⟨h1, ⟨⟨c', h5, h7⟩, fun M x hx gx => ?_⟩, h5, h7, fun x hx gx => ?_⟩) k 0 c (by omega) hc (fun M hM => absurd hM (by omega)) (k + 1) (by omega)
  · exact Exists.intro (k + 1) key
  · by_cases e : L ≤ M
    · exact e
    · exact absurd (rg_cong (fun i a b => dg_of q2 hx a b) gx) (h2 M (by omega) (dg_pc Q x M) (dg_lt hx M))
  · have e : dg_pc Q c' L = m := by rw [dg_cong L h6, dg_self h3]
    by_cases z : m ≤ dg_pc Q x L
    · rw [e]; exact z
    · exact absurd (rg_cong (fun i a b => dg_of q2 hx a b) gx) (h4 (dg_pc Q x L) (by omega))
theorem yw_wh2 {Q N : Nat} {q lim : Int32} {c : Nat → Int32} {s : Nat → Nat} {post : SY → Prop} (hs : rl_R Q s) (hN : N ≤ 12)
    (h : ∀ r', rl_R Q r' → (∀ j, j < N → r' j = s j) → post (q, lim, nI N, rl_A s, rl_A r', c)) :
    ∀ d i r, i + d = N → rl_R Q r → (∀ j, j < i → r j = s j) → ∀ f, d < f → wY_whole_2 post q lim (nI N) f (nI i) (rl_A s) (rl_A r) c := by
  intro d
  induction d with
  | zero =>
    intro i r hi hr hh f hf
    obtain ⟨f, rfl⟩ := yw_fu hf
    exact br_t (nI_le (by omega) (by omega)) (h r hr (fun j hj => hh j (by omega)))
  | succ d ih =>
    intro i r hi hr hh f hf
    obtain ⟨f, rfl⟩ := yw_fu hf
    refine br_f (nI_ge (by omega) (by omega)) ⟨vp_in_nI (by omega) (by omega), vp_in_nI (by omega) (by omega), rl_st i (s i) rfl (by omega) (rl_get i rfl (by omega)) (nm_r (nI_1 i) ?_)⟩
    refine ih (i + 1) (rl_u r i (s i)) (by omega) (rl_Ru hr (hs i)) (fun j hj => ?_) f (by omega)
    by_cases c1 : j = i
    · rw [c1, rl_us]
    · rw [rl_un c1]; exact hh j (by omega)
theorem yw_whole {Q N : Nat} {q lim : Int32} {c : Nat → Int32} {s r : Nat → Nat} {post : SY → Prop} (hs : rl_R Q s) (hr : rl_R Q r) (hN : N ≤ 12)
    (h : ∀ r', rl_R Q r' → (∀ j, j < N → r' j = s j) → post (q, lim, nI N, rl_A s, rl_A r', c)) : wpY_whole post (q, lim, nI N, rl_A s, rl_A r, c) :=
  Exists.intro (N + 1) (yw_wh2 hs hN h N 0 r (by omega) hr (fun j hj => absurd hj (by omega)) (N + 1) (by omega))
end
section
/-! a sequence carried on by a register -/
def rg_X (Q L : Nat) (c : Nat → Nat) (n : Nat) (w : Nat → Nat) : Nat → (Nat → Nat)
  | 0 => w
  | t + 1 => rl_u (rg_X Q L c n w t) (n + t) (rl_S (yw_F c (rg_X Q L c n w t) (n + t)) L % Q)
theorem rg_Xs (Q L : Nat) (c : Nat → Nat) (n : Nat) (w : Nat → Nat) (t : Nat) : rg_X Q L c n w (t + 1) = rl_u (rg_X Q L c n w t) (n + t) (rl_S (yw_F c (rg_X Q L c n w t) (n + t)) L % Q) := rfl
theorem rg_Fc {L j : Nat} {c c' w w' : Nat → Nat} (hc : ∀ i, 1 ≤ i → i ≤ L → c i = c' i) (hL : L ≤ j) (hw : ∀ i, i < j → w i = w' i) : rl_S (yw_F c w j) L = rl_S (yw_F c' w' j) L :=
  rl_Scongr L (fun i hi => by
    show c (i + 1) * w (j - (i + 1)) = c' (i + 1) * w' (j - (i + 1))
    rw [hc (i + 1) (by omega) (by omega), hw (j - (i + 1)) (by omega)])
theorem rg_XR {Q L n : Nat} {c w : Nat → Nat} (hQ : 0 < Q) (hw : rl_R Q w) : ∀ t, rl_R Q (rg_X Q L c n w t) := by
  intro t
  induction t with
  | zero => exact hw
  | succ t ih => exact rl_Ru ih (Nat.mod_lt _ hQ)
theorem rg_Xc {Q L n : Nat} {c c' w w' : Nat → Nat} (hc : ∀ i, 1 ≤ i → i ≤ L → c i = c' i) (hL : L ≤ n) (hw : ∀ i, i < n → w i = w' i) : ∀ t j, j < n + t → rg_X Q L c n w t j = rg_X Q L c' n w' t j := by
  intro t
  induction t with
  | zero => exact fun j hj => hw j hj
  | succ t ih =>
    intro j hj
    rw [rg_Xs, rg_Xs]
    by_cases e : j = n + t
    · subst e
      rw [rl_us, rl_us, rg_Fc hc (by omega) (fun i hi => ih i hi)]
    · rw [rl_un e, rl_un e]
      exact ih j (by omega)
/-- how long a register holds -/
def rg_H (Q L N : Nat) (c s : Nat → Nat) : Nat → Nat → (Nat → Nat) → Nat
  | 0, _, _ => N
  | d + 1, j, w => if rl_S (yw_F c w j) L % Q = s j then rg_H Q L N c s d (j + 1) (rl_u w j (rl_S (yw_F c w j) L % Q)) else j
theorem rg_Hs (Q L N : Nat) (c s : Nat → Nat) (d j : Nat) (w : Nat → Nat) : rg_H Q L N c s (d + 1) j w = if rl_S (yw_F c w j) L % Q = s j then rg_H Q L N c s d (j + 1) (rl_u w j (rl_S (yw_F c w j) L % Q)) else j := rfl
theorem rg_Hc {Q L N : Nat} {c c' s : Nat → Nat} (hc : ∀ i, 1 ≤ i → i ≤ L → c i = c' i) : ∀ d j w w', L ≤ j → (∀ i, i < j → w i = w' i) → rg_H Q L N c s d j w = rg_H Q L N c' s d j w' := by
  intro d
  induction d with
  | zero => intro j w w' _ _; rfl
  | succ d ih =>
    intro j w w' hL hw
    rw [rg_Hs, rg_Hs, rg_Fc hc hL hw]
    by_cases e : rl_S (yw_F c' w' j) L % Q = s j
    · rw [if_pos e, if_pos e]
      refine ih (j + 1) _ _ (by omega) (fun i hi => ?_)
      by_cases c1 : i = j
      · rw [c1, rl_us, rl_us]
      · rw [rl_un c1, rl_un c1]; exact hw i (by omega)
    · rw [if_neg e, if_neg e]

/-! the reference's answers -/
theorem ya_cpx21 {Q N a b : Nat} {lim : Int32} {s c : Nat → Nat} {post : Int32 → SY → Prop} (hQ : rl_Q Q) (hs : rl_R Q s) (hc : rl_R Q c) (hN : N ≤ 12) (hb : b ≤ N)
    (h : ∀ L r' c', rl_R Q r' → rl_R Q c' → L ≤ b - a → rg_LC Q (fun j => s (a + j)) (b - a) L → post (nI L) (nI Q, lim, nI N, rl_A s, rl_A r', rl_A c')) :
    ∀ d i r, a + i + d = b → rl_R Q r → (∀ j, j < i → r j = s (a + j)) → ∀ f, d < f → wY_complexity_21 post (nI a) (nI b) (nI Q) lim (nI N) f (nI (a + i)) (rl_A s) (rl_A r) (rl_A c) := by
  intro d
  induction d with
  | zero =>
    intro i r hi hr hh f hf
    obtain ⟨f, rfl⟩ := yw_fu hf
    refine br_t (nI_le (by omega) (by omega)) (yw_least (k := b - a) hQ hr hc (by omega) (pk_sub (by omega)) (fun L c' ho => ?_))
    exact h L r c' hr ho.2.2.1 ho.1 (rg_LC_seq (fun j hj => (hh j (by omega)).symm) ho.2.1)
  | succ d ih =>
    intro i r hi hr hh f hf
    obtain ⟨f, rfl⟩ := yw_fu hf
    have e : nI (a + i) - nI a = nI i := by rw [pk_sub (by omega), Nat.add_sub_cancel_left]
    refine br_f (nI_ge (by omega) (by omega)) ⟨vp_in_nI (by omega) (by omega), pk_in i 60 (by omega) e, rl_st i (s (a + i)) e (by omega) (rl_get (a + i) rfl (by omega)) (nm_r (nI_1 (a + i)) ?_)⟩
    refine ih (i + 1) (rl_u r i (s (a + i))) (by omega) (rl_Ru hr (hs _)) (fun j hj => ?_) f (by omega)
    by_cases c1 : j = i
    · rw [c1, rl_us]
    · rw [rl_un c1]; exact hh j (by omega)
theorem ya_back2 {Q N : Nat} {lim : Int32} {s c : Nat → Nat} {post : Int32 → SY → Prop} (hQ : rl_Q Q) (hs : rl_R Q s) (hc : rl_R Q c) (hN : N ≤ 12)
    (h : ∀ L r' c', rl_R Q r' → rl_R Q c' → L ≤ N → rg_LC Q (fun j => s (N - 1 - j)) N L → post (nI L) (nI Q, lim, nI N, rl_A s, rl_A r', rl_A c')) :
    ∀ d i r, i + d = N → rl_R Q r → (∀ j, j < i → r j = s (N - 1 - j)) → ∀ f, d < f → wY_complexityBackwards_2 post (nI Q) lim (nI N) f (nI i) (rl_A s) (rl_A r) (rl_A c) := by
  intro d
  induction d with
  | zero =>
    intro i r hi hr hh f hf
    obtain ⟨f, rfl⟩ := yw_fu hf
    refine br_t (nI_le (by omega) (by omega)) (yw_least (k := N) hQ hr hc (by omega) rfl (fun L c' ho => ?_))
    exact h L r c' hr ho.2.2.1 ho.1 (rg_LC_seq (fun j hj => (hh j (by omega)).symm) ho.2.1)
  | succ d ih =>
    intro i r hi hr hh f hf
    obtain ⟨f, rfl⟩ := yw_fu hf
    have e : nI N - 1 - nI i = nI (N - 1 - i) := by
      rw [show nI N - 1 = nI (N - 1) from pk_sub (b := 1) (by omega), pk_sub (by omega)]
    refine br_f (nI_ge (by omega) (by omega)) ⟨pk_in (N - 1 - i) 12 (by omega) e, vp_in_nI (by omega) (by omega), rl_st i (s (N - 1 - i)) rfl (by omega) (rl_get (N - 1 - i) e (by omega)) (nm_r (nI_1 i) ?_)⟩
    refine ih (i + 1) (rl_u r i (s (N - 1 - i))) (by omega) (rl_Ru hr (hs _)) (fun j hj => ?_) f (by omega)
    by_cases c1 : j = i
    · rw [c1, rl_us]
    · rw [rl_un c1]; exact hh j (by omega)
theorem ya_reg24 {Q N L : Nat} {lim : Int32} {s r : Nat → Nat} {post : Int32 → SY → Prop} (hQ : rl_Q Q) (hr : rl_R Q r) (hN : N ≤ 12) (hL : L ≤ N)
    (h : ∀ c', rl_R Q c' → post (nI (rl_S (fun m => cn_b (rg_Gen Q r N L (dg_D Q L m))) (Q ^ L))) (nI Q, lim, nI N, rl_A s, rl_A r, rl_A c')) :
    ∀ d m c, m + d = Q ^ L → rl_R Q c → ∀ f, d < f → wY_registers_24 post (nI L) (nI (Q ^ L)) f (nI (rl_S (fun m => cn_b (rg_Gen Q r N L (dg_D Q L m))) m)) (nI m) (nI Q) lim (nI N) (rl_A s) (rl_A r) (rl_A c) := by
  have hb := yw_pb hQ (L := L) (by omega)
  intro d
  induction d with
  | zero =>
    intro m c hm hc f hf
    obtain ⟨f, rfl⟩ := yw_fu hf
    obtain rfl : m = Q ^ L := by omega
    exact br_t (nI_le (Nat.le_refl _) (by omega)) (h c hc)
  | succ d ih =>
    intro m c hm hc f hf
    obtain ⟨f, rfl⟩ := yw_fu hf
    refine br_f (nI_ge (by omega) (by omega)) (yw_spell hQ (by omega) (by omega) hc (fun c' h1 h2 => ?_))
    refine yw_gen hQ hr h1 (by omega) (by omega) (by omega) (fun g => ?_) (fun g => ?_)
    · refine br_f (show ¬ (1 : Int32) = 0 by decide) (nm_r (e' := nI (rl_S (fun m => cn_b (rg_Gen Q r N L (dg_D Q L m))) (m + 1))) ?_ (nm_r (nI_1 m) (ih (m + 1) c' (by omega) h1 f (by omega))))
      rw [nI_1, rl_Ss, cn_t (rg_cong (fun i a b => (h2 i a b).symm) g)]
    · refine br_t rfl (nm_r (e' := nI (rl_S (fun m => cn_b (rg_Gen Q r N L (dg_D Q L m))) (m + 1))) ?_ (nm_r (nI_1 m) (ih (m + 1) c' (by omega) h1 f (by omega))))
      rw [rl_Ss, cn_f (fun z => g (rg_cong h2 z)), Int32.add_zero]
      rfl
theorem ya_pred30 {Q N L k : Nat} {lim : Int32} {s r c : Nat → Nat} {post : Int32 → SY → Prop} (hQ : rl_Q Q) (hr : rl_R Q r) (hc : rl_R Q c) (hN : N ≤ 12) (hL : L ≤ N) (hk : k ≤ 40)
    (h : ∀ r', rl_R Q r' → post (nI (rg_X Q L c N r (k + 1) (N + k))) (nI Q, lim, nI N, rl_A s, rl_A r', rl_A c)) :
    ∀ d t, t + d = k + 1 → ∀ f, d < f → wY_predict_30 post (nI k) (nI L) (nI Q) lim (nI N) f (nI (N + t)) (rl_A s) (rl_A (rg_X Q L c N r t)) (rl_A c) := by
  have q2 : 0 < Q := by have := rl_Q2 hQ; omega
  intro d
  induction d with
  | zero =>
    intro t ht f hf
    obtain ⟨f, rfl⟩ := yw_fu hf
    obtain rfl : t = k + 1 := by omega
    refine br_t ?_ ⟨pk_in (N + k) 60 (by omega) (nI_add N k), ?_⟩
    · rw [nI_add]; exact nI_lt (by omega) (by omega)
    · rw [rl_get (N + k) (nI_add N k) (by omega)]
      exact h _ (rg_XR q2 hr _)
  | succ d ih =>
    intro t ht f hf
    obtain ⟨f, rfl⟩ := yw_fu hf
    have b1 : rl_S (yw_F c (rg_X Q L c N r t) (N + t)) L % Q < Q := Nat.mod_lt _ q2
    refine br_f ?_ (yw_sum hQ (rg_XR q2 hr t) hc (by omega) (by omega) (by omega) ⟨vp_in_nI (by omega) (by omega), rl_st (N + t) _ rfl (by omega) rfl (nm_r (nI_1 (N + t)) (ih (t + 1) (by omega) f (by omega)))⟩)
    rw [nI_add]
    exact nI_nlt (by omega) (by omega)
theorem ya_hold26 {Q N L : Nat} {lim : Int32} {s c : Nat → Nat} {post : Int32 → SY → Prop} (hQ : rl_Q Q) (hs : rl_R Q s) (hc : rl_R Q c) (hN : N ≤ 12) (hL : L ≤ 13) (A : Nat)
    (h : ∀ r', rl_R Q r' → post (nI A) (nI Q, lim, nI N, rl_A s, rl_A r', rl_A c)) :
    ∀ d j r, j + d = N → L ≤ j → rl_R Q r → rg_H Q L N c s d j r = A → ∀ f, d < f → wY_holdsUntil_26 post (nI L) (nI Q) lim (nI N) f (nI j) (rl_A s) (rl_A r) (rl_A c) := by
  have q2 : 0 < Q := by have := rl_Q2 hQ; omega
  have q5 := rl_Q5 hQ
  intro d
  induction d with
  | zero =>
    intro j r hj hLj hr hA f hf
    obtain ⟨f, rfl⟩ := yw_fu hf
    refine br_t (nI_le (by omega) (by omega)) ?_
    have e : N = A := hA
    have := h r hr
    rw [← e] at this
    exact this
  | succ d ih =>
    intro j r hj hLj hr hA f hf
    obtain ⟨f, rfl⟩ := yw_fu hf
    have b1 : rl_S (yw_F c r j) L % Q < Q := Nat.mod_lt _ q2
    have b2 := hs j
    refine br_f (nI_ge (by omega) (by omega)) (yw_sum hQ hr hc hL hLj (by omega) ⟨vp_in_nI (by omega) (by omega), rl_st j _ rfl (by omega) rfl ⟨vp_in_nI (by omega) (by omega), vp_in_nI (by omega) (by omega), ?_⟩⟩)
    rw [rg_Hs] at hA
    refine pk_eq (rl_S (yw_F c r j) L % Q) (s j) (fun e => nm_r (nI_1 j) (ih (j + 1) _ (by omega) (by omega) (rl_Ru hr b1) ?_ f (by omega))) (fun e => ?_) ?_ (rl_get j rfl (by omega)) (by omega) (by omega)
    · rw [if_pos e] at hA
      exact hA
    · rw [if_neg e] at hA
      subst hA
      exact h _ (rl_Ru hr b1)
    · rw [rl_get j rfl (by omega), rl_us]
end
section
/-! the component's walks: the sequence, and the shortest register -/
section XW1
variable {q lim sz ws ro cl rk rl : Int32} {sy wk po ol cp ce pr rg : Nat → Int32}
theorem xw_take7 {Q a K : Nat} {s : Nat → Nat} {post : SX → Prop} (hQ : rl_Q Q) (hs : rl_R Q s) (ha : a + K ≤ 12)
    (h : ∀ w', rl_R Q w' → (∀ j, j < K → w' j = s (a + j)) → post (q, lim, sz, nI K, ro, cl, rk, rl, rl_A s, rl_A w', po, ol, cp, ce, pr, rg)) :
    ∀ d i w, i + d = K → rl_R Q w → (∀ j, j < i → w j = s (a + j)) → ∀ f, d < f → wX_take_7 post (nI (a + K)) q lim sz ro cl rk rl f (nI (a + i)) (nI i) (rl_A s) (rl_A w) po ol cp ce pr rg := by
  have q5 := rl_Q5 hQ
  intro d
  induction d with
  | zero =>
    intro i w hi hw hh f hf
    obtain ⟨f, rfl⟩ := yw_fu hf
    obtain rfl : i = K := by omega
    exact br_t (nI_le (by omega) (by omega)) (h w hw hh)
  | succ d ih =>
    intro i w hi hw hh f hf
    obtain ⟨f, rfl⟩ := yw_fu hf
    have b := hs (a + i)
    refine br_f (nI_ge (by omega) (by omega)) ⟨vp_in_nI (by omega) (by omega), vp_in_nI (by omega) (by omega), rl_sb i (s (a + i)) rfl (by omega) (rl_get (a + i) rfl (by omega)) (by omega) (nm_r (nI_1 i) (nm_r (nI_1 (a + i)) ?_))⟩
    refine ih (i + 1) (rl_u w i (s (a + i))) (by omega) (rl_Ru hw b) (fun j hj => ?_) f (by omega)
    by_cases c1 : j = i
    · rw [c1, rl_us]
    · rw [rl_un c1]; exact hh j (by omega)
theorem xw_take {Q a b : Nat} {s w : Nat → Nat} {post : SX → Prop} (hQ : rl_Q Q) (hs : rl_R Q s) (hw : rl_R Q w) (hab : a ≤ b) (hb : b ≤ 12)
    (h : ∀ w', rl_R Q w' → (∀ j, j < b - a → w' j = s (a + j)) → post (q, lim, sz, nI (b - a), ro, cl, rk, rl, rl_A s, rl_A w', po, ol, cp, ce, pr, rg)) : wpX_take post (q, lim, sz, ws, ro, cl, rk, rl, rl_A s, rl_A w, po, ol, cp, ce, pr, rg) (nI a) (nI b) := by
  have key := xw_take7 (q := q) (lim := lim) (sz := sz) (ro := ro) (cl := cl) (rk := rk) (rl := rl) (po := po) (ol := ol) (cp := cp) (ce := ce) (pr := pr) (rg := rg) (K := b - a) (a := a) hQ hs (by omega) h (b - a) 0 w (by omega) hw (fun j hj => absurd hj (by omega)) (b - a + 1) (by omega)
  rw [show a + (b - a) = b by omega] at key
  exact Exists.intro _ key
theorem xw_inv4 {Q v : Nat} {post : Int32 → Prop} (hQ : rl_Q Q) (hv : v < Q) (h : ∀ r, r < Q → (∀ j, 1 ≤ j → j < Q → v * j % Q = 1 → v * r % Q = 1) → post (nI r)) :
    ∀ d k r, k + d = Q → 1 ≤ k → r < Q → (∀ j, 1 ≤ j → j < k → v * j % Q = 1 → v * r % Q = 1) → ∀ f, d < f → wX_inverse_4 post (nI v) (nI Q) lim sz ws ro cl rk rl sy wk po ol cp ce pr rg f (nI r) (nI k) := by
  have q5 := rl_Q5 hQ
  have q2 := rl_Q2 hQ
  intro d
  induction d with
  | zero =>
    intro k r hk h1 hr hh f hf
    obtain ⟨f, rfl⟩ := yw_fu hf
    exact br_t (nI_le (by omega) (by omega)) (h r hr (fun j a b => hh j a (by omega)))
  | succ d ih =>
    intro k r hk h1 hr hh f hf
    obtain ⟨f, rfl⟩ := yw_fu hf
    have hm : v * k ≤ 16 := rl_prod q5 hv (by omega)
    have hm2 : v * k % Q < Q := Nat.mod_lt _ (by omega)
    have e : nI v * nI k - nI v * nI k / nI Q * nI Q = nI (v * k % Q) := by rw [pk_mul]; exact pk_rem (by omega) (by omega) (by omega)
    refine br_f (nI_ge (by omega) (by omega)) ⟨nI_ne0 (by omega) (by omega), ?_⟩
    refine pk_eq (v * k % Q) 1 (fun z => nm_r (nI_1 k) (ih (k + 1) k (by omega) (by omega) (by omega) (fun j a b _ => z) f (by omega))) (fun z => nm_r (nI_1 k) (ih (k + 1) r (by omega) (by omega) hr (fun j a b y => ?_) f (by omega))) e rfl (by omega) (by omega)
    by_cases c1 : j = k
    · rw [c1] at y; exact absurd y z
    · exact hh j a (by omega) y
theorem xw_invex {Q v : Nat} (hQ : rl_Q Q) (h0 : 0 < v) (hv : v < Q) : ∃ j, 1 ≤ j ∧ j < Q ∧ v * j % Q = 1 := by
  rcases hQ with rfl | rfl | rfl
  · obtain rfl : v = 1 := by omega
    exact ⟨1, by decide, by decide, by decide⟩
  · have : v = 1 ∨ v = 2 := by omega
    rcases this with rfl | rfl
    · exact ⟨1, by decide, by decide, by decide⟩
    · exact ⟨2, by decide, by decide, by decide⟩
  · have : v = 1 ∨ v = 2 ∨ v = 3 ∨ v = 4 := by omega
    rcases this with rfl | rfl | rfl | rfl
    · exact ⟨1, by decide, by decide, by decide⟩
    · exact ⟨3, by decide, by decide, by decide⟩
    · exact ⟨2, by decide, by decide, by decide⟩
    · exact ⟨4, by decide, by decide, by decide⟩
theorem xw_inv {Q v : Nat} {p : Int32} {post : Int32 → Prop} (hQ : rl_Q Q) (h0 : 0 < v) (hv : v < Q) (hp : p = nI v) (h : ∀ r, r < Q → v * r % Q = 1 → post (nI r)) : wpX_inverse post (nI Q, lim, sz, ws, ro, cl, rk, rl, sy, wk, po, ol, cp, ce, pr, rg) p := by
  have q2 := rl_Q2 hQ
  subst hp
  obtain ⟨j, a, b, e⟩ := xw_invex hQ h0 hv
  exact Exists.intro (Q - 2 + 1) (xw_inv4 hQ hv (fun r hr hh => h r hr (hh j a b e)) (Q - 2) 2 1 (by omega) (by omega) (by omega) (fun t t1 t2 z => by
    have : t = 1 := by omega
    rw [this] at z; exact z) (Q - 2 + 1) (by omega))
theorem xw_wrap {Q a f b : Nat} {p : Int32} {post : Int32 → Prop} (hQ : rl_Q Q) (ha : a < Q) (hf : f < Q) (hb : b < Q) (hp : p = nI a - nI f * nI b) (h : post (nI ((a + Q * Q - f * b) % Q))) : wpX_wrap post (nI Q, lim, sz, ws, ro, cl, rk, rl, sy, wk, po, ol, cp, ce, pr, rg) p := by
  have q5 := rl_Q5 hQ
  have q2 := rl_Q2 hQ
  have hm : f * b ≤ Q * Q := Nat.mul_le_mul (by omega) (by omega)
  have hQQ : Q * Q ≤ 5 * 5 := Nat.mul_le_mul q5 q5
  have e : p + nI Q * nI Q = nI (a + Q * Q - f * b) := by
    rw [hp, pk_mul, pk_mul, ← pk_sub (show f * b ≤ a + Q * Q by omega), ← nI_add, Int32.sub_eq_add_neg, Int32.sub_eq_add_neg, Int32.add_assoc, Int32.add_assoc, Int32.add_comm (-nI (f * b))]
  refine ⟨nI_ne0 (by omega) (by omega), ?_⟩
  rw [e, pk_rem (by omega) (by omega) (by omega)]
  exact h
theorem xw_disc5 {Q k L : Nat} {w p : Nat → Nat} {post : Int32 → Prop} (hQ : rl_Q Q) (hw : rl_R Q w) (hp : rl_R Q p) (hL : L ≤ k) (hk : k < 32)
    (h : post (nI (rl_S (fun i => p i * w (k - i)) (L + 1) % Q))) : ∀ d i, i + d = L + 1 → ∀ f, d < f → wX_discrepancy_5 post (nI k) (nI L) (nI Q) lim sz ws ro cl rk rl sy (rl_A w) (rl_A p) ol cp ce pr rg f (nI (rl_S (fun i => p i * w (k - i)) i)) (nI i) := by
  have q5 := rl_Q5 hQ
  have q2 := rl_Q2 hQ
  have hb := rl_Sle (f := fun i => p i * w (k - i)) (B := 16) (L + 1) (fun i _ => rl_prod q5 (hp _) (hw _))
  intro d
  induction d with
  | zero =>
    intro i hi f hf
    obtain ⟨f, rfl⟩ := yw_fu hf
    obtain rfl : i = L + 1 := by omega
    refine br_t (nI_lt (by omega) (by omega)) ⟨nI_ne0 (by omega) (by omega), ?_⟩
    rw [pk_rem (by omega) (by omega) (by omega)]
    exact h
  | succ d ih =>
    intro i hi f hf
    obtain ⟨f, rfl⟩ := yw_fu hf
    refine br_f (nI_nlt (by omega) (by omega)) (br_f (nI_nlt (by omega) (by omega)) ⟨vp_in_nI (by omega) (by omega), pk_in (k - i) 64 (by omega) (pk_sub (by omega)), ?_⟩)
    refine nm_r (e' := nI (rl_S (fun i => p i * w (k - i)) (i + 1))) ?_ (nm_r (nI_1 i) (ih (i + 1) (by omega) f (by omega)))
    rw [rl_get i rfl (by omega), rl_get (k - i) (pk_sub (by omega)) (by omega), pk_mul, nI_add]
    rfl
theorem xw_disc {Q k L : Nat} {w p : Nat → Nat} {post : Int32 → Prop} (hQ : rl_Q Q) (hw : rl_R Q w) (hp : rl_R Q p) (hL : L ≤ k) (hk : k < 32)
    (h : post (nI (rl_S (fun i => p i * w (k - i)) (L + 1) % Q))) : wpX_discrepancy post (nI Q, lim, sz, ws, ro, cl, rk, rl, sy, rl_A w, rl_A p, ol, cp, ce, pr, rg) (nI k) (nI L) :=
  Exists.intro (L + 1 + 1) (xw_disc5 hQ hw hp hL hk h (L + 1) 0 (by omega) (L + 1 + 1) (by omega))
theorem xw_keep2 {Q : Nat} {p : Nat → Nat} {post : SX → Prop} (hQ : rl_Q Q) (hp : rl_R Q p) (h : ∀ c', rl_R Q c' → (∀ i, i < 32 → c' i = p i) → post (q, lim, sz, ws, ro, cl, rk, rl, sy, wk, rl_A p, ol, rl_A c', ce, pr, rg)) :
    ∀ d i c, i + d = 32 → rl_R Q c → (∀ j, j < i → c j = p j) → ∀ f, d < f → wX_keepCopy_2 post q lim sz ws ro cl rk rl f (nI i) sy wk (rl_A p) ol (rl_A c) ce pr rg := by
  have q5 := rl_Q5 hQ
  intro d
  induction d with
  | zero =>
    intro i c hi hc hh f hf
    obtain ⟨f, rfl⟩ := yw_fu hf
    exact br_t (nI_le (a := 32) (by omega) (by omega)) (h c hc (fun j hj => hh j (by omega)))
  | succ d ih =>
    intro i c hi hc hh f hf
    obtain ⟨f, rfl⟩ := yw_fu hf
    have b := hp i
    refine br_f (nI_ge (b := 32) (by omega) (by omega)) ⟨vp_in_nI (by omega) (by omega), vp_in_nI (by omega) (by omega), rl_sb i (p i) rfl (by omega) (rl_get i rfl (by omega)) (by omega) (nm_r (nI_1 i) ?_)⟩
    refine ih (i + 1) (rl_u c i (p i)) (by omega) (rl_Ru hc b) (fun j hj => ?_) f (by omega)
    by_cases c1 : j = i
    · rw [c1, rl_us]
    · rw [rl_un c1]; exact hh j (by omega)
theorem xw_keep {Q : Nat} {p c : Nat → Nat} {post : SX → Prop} (hQ : rl_Q Q) (hp : rl_R Q p) (hc : rl_R Q c) (h : ∀ c', rl_R Q c' → (∀ i, i < 32 → c' i = p i) → post (q, lim, sz, ws, ro, cl, rk, rl, sy, wk, rl_A p, ol, rl_A c', ce, pr, rg)) : wpX_keepCopy post (q, lim, sz, ws, ro, cl, rk, rl, sy, wk, rl_A p, ol, rl_A c, ce, pr, rg) :=
  Exists.intro 33 (xw_keep2 hQ hp h 32 0 c (by omega) hc (fun j hj => absurd hj (by omega)) 33 (by omega))
theorem xw_use2 {Q : Nat} {c : Nat → Nat} {post : SX → Prop} (hQ : rl_Q Q) (hc : rl_R Q c) (h : ∀ o', rl_R Q o' → (∀ i, i < 32 → o' i = c i) → post (q, lim, sz, ws, ro, cl, rk, rl, sy, wk, po, rl_A o', rl_A c, ce, pr, rg)) :
    ∀ d i o, i + d = 32 → rl_R Q o → (∀ j, j < i → o j = c j) → ∀ f, d < f → wX_useCopy_2 post q lim sz ws ro cl rk rl f (nI i) sy wk po (rl_A o) (rl_A c) ce pr rg := by
  have q5 := rl_Q5 hQ
  intro d
  induction d with
  | zero =>
    intro i o hi ho hh f hf
    obtain ⟨f, rfl⟩ := yw_fu hf
    exact br_t (nI_le (a := 32) (by omega) (by omega)) (h o ho (fun j hj => hh j (by omega)))
  | succ d ih =>
    intro i o hi ho hh f hf
    obtain ⟨f, rfl⟩ := yw_fu hf
    have b := hc i
    refine br_f (nI_ge (b := 32) (by omega) (by omega)) ⟨vp_in_nI (by omega) (by omega), vp_in_nI (by omega) (by omega), rl_sb i (c i) rfl (by omega) (rl_get i rfl (by omega)) (by omega) (nm_r (nI_1 i) ?_)⟩
    refine ih (i + 1) (rl_u o i (c i)) (by omega) (rl_Ru ho b) (fun j hj => ?_) f (by omega)
    by_cases c1 : j = i
    · rw [c1, rl_us]
    · rw [rl_un c1]; exact hh j (by omega)
theorem xw_use {Q : Nat} {c o : Nat → Nat} {post : SX → Prop} (hQ : rl_Q Q) (hc : rl_R Q c) (ho : rl_R Q o) (h : ∀ o', rl_R Q o' → (∀ i, i < 32 → o' i = c i) → post (q, lim, sz, ws, ro, cl, rk, rl, sy, wk, po, rl_A o', rl_A c, ce, pr, rg)) : wpX_useCopy post (q, lim, sz, ws, ro, cl, rk, rl, sy, wk, po, rl_A o, rl_A c, ce, pr, rg) :=
  Exists.intro 33 (xw_use2 hQ hc h 32 0 o (by omega) ho (fun j hj => absurd hj (by omega)) 33 (by omega))
theorem xw_mend17 {Q m sh : Nat} {p o : Nat → Nat} {post : SX → Prop} (hQ : rl_Q Q) (ho : rl_R Q o) (hsh : sh < Q) (hm : m ≤ 32)
    (h : ∀ p', rl_R Q p' → (∀ i, i < m → p' i = p i) → (∀ i, m ≤ i → i < 32 → p' i = (p i + Q * Q - sh * o (i - m)) % Q) → post (nI Q, lim, sz, ws, ro, cl, rk, rl, sy, wk, rl_A p', rl_A o, cp, ce, pr, rg)) :
    ∀ d i p1, i + d = 32 → m ≤ i → rl_R Q p1 → (∀ j, j < m → p1 j = p j) → (∀ j, m ≤ j → j < i → p1 j = (p j + Q * Q - sh * o (j - m)) % Q) → (∀ j, i ≤ j → p1 j = p j) →
    ∀ f, d < f → wX_mend_17 post (nI m) (nI sh) (nI Q) lim sz ws ro cl rk rl f (nI i) sy wk (rl_A p1) (rl_A o) cp ce pr rg := by
  have q5 := rl_Q5 hQ
  have q2 := rl_Q2 hQ
  intro d
  induction d with
  | zero =>
    intro i p1 hi hmi hp1 h1 h2 h3 f hf
    obtain ⟨f, rfl⟩ := yw_fu hf
    exact br_t (nI_le (a := 32) (by omega) (by omega)) (h p1 hp1 h1 (fun j a b => h2 j a (by omega)))
  | succ d ih =>
    intro i p1 hi hmi hp1 h1 h2 h3 f hf
    obtain ⟨f, rfl⟩ := yw_fu hf
    have b1 : (p1 i + Q * Q - sh * o (i - m)) % Q < Q := Nat.mod_lt _ (by omega)
    refine br_f (nI_ge (b := 32) (by omega) (by omega)) ⟨vp_in_nI (by omega) (by omega), pk_in (i - m) 32 (by omega) (pk_sub (by omega)), ?_⟩
    refine nm_r (e' := nI (p1 i) - nI sh * nI (o (i - m))) ?_ (xw_wrap hQ (hp1 i) hsh (ho (i - m)) rfl ⟨vp_in_nI (by omega) (by omega), rl_sc i _ rfl (by omega) rfl (by omega) (nm_r (nI_1 i) ?_)⟩)
    · rw [rl_get i rfl (by omega), rl_get (i - m) (pk_sub (by omega)) (by omega)]
    · refine ih (i + 1) _ (by omega) (by omega) (rl_Ru hp1 b1) (fun j hj => ?_) (fun j a b => ?_) (fun j hj => ?_) f (by omega)
      · rw [rl_un (by omega)]; exact h1 j hj
      · by_cases c1 : j = i
        · rw [c1, rl_us, h3 i (Nat.le_refl i)]
        · rw [rl_un c1]; exact h2 j a (by omega)
      · rw [rl_un (by omega)]; exact h3 j (by omega)
theorem xw_share {Q g r l : Nat} (h : l * r % Q = 1) : (Q : Int) ∣ ((g * r % Q : Nat) : Int) * l - g := by
  have h1 := dv_l (l : Int) (dv_mod Q (g * r))
  have h2 := dv_l (g : Int) (dv_of h)
  refine dv_eqv (dv_add h1 h2) ?_
  rw [Int.natCast_mul, Int.natCast_mul]
  generalize ((g * r % Q : Nat) : Int) = x
  generalize (g : Int) = y
  generalize (r : Int) = z
  generalize (l : Int) = t
  show t * (x - y * z) + y * (t * z - ((1 : Nat) : Int)) = x * t - y
  grind
theorem xw_mend {Q m g l : Nat} {p o : Nat → Nat} {post : SX → Prop} (hQ : rl_Q Q) (hp : rl_R Q p) (ho : rl_R Q o) (hm : m ≤ 32) (hg : g < Q) (hl0 : 0 < l) (hl : l < Q)
    (h : ∀ p' sh, sh < Q → (Q : Int) ∣ (sh : Int) * l - g → rl_R Q p' → (∀ i, i < m → p' i = p i) → (∀ i, m ≤ i → i < 32 → p' i = (p i + Q * Q - sh * o (i - m)) % Q) → post (nI Q, lim, sz, ws, ro, cl, rk, rl, sy, wk, rl_A p', rl_A o, cp, ce, pr, rg)) :
    wpX_mend post (nI Q, lim, sz, ws, ro, cl, rk, rl, sy, wk, rl_A p, rl_A o, cp, ce, pr, rg) (nI g) (nI l) (nI m) := by
  have q5 := rl_Q5 hQ
  have q2 := rl_Q2 hQ
  unfold wpX_mend
  dsimp only
  refine xw_inv hQ hl0 hl rfl (fun r hr e => ?_)
  have hm1 : g * r ≤ 16 := rl_prod q5 hg hr
  have b1 : g * r % Q < Q := Nat.mod_lt _ (by omega)
  refine ⟨nI_ne0 (by omega) (by omega), nm_r (e' := nI (g * r % Q)) ?_ (Exists.intro (32 - m + 1) ?_)⟩
  · rw [pk_mul, pk_rem (by omega) (by omega) (by omega)]
  · exact xw_mend17 hQ ho b1 hm (fun p' h1 h2 h3 => h p' (g * r % Q) b1 (xw_share e) h1 h2 h3) (32 - m) m p (by omega) (Nat.le_refl m) hp (fun _ _ => rfl) (fun j a b => absurd a (by omega)) (fun _ _ => rfl) (32 - m + 1) (by omega)
end XW1
end
section
/-! the component's shortest -/
section XW2
variable {q lim sz ws ro cl rk rl : Int32} {sy wk po ol cp ce pr rg : Nat → Int32}
theorem xs_gap {Q k L : Nat} {w p : Nat → Nat} : (Q : Int) ∣ bm_G w p L k - ((rl_S (fun i => p i * w (k - i)) (L + 1) % Q : Nat) : Int) := by
  have h := dv_mod Q (rl_S (fun i => p i * w (k - i)) (L + 1))
  rw [bm_GS] at h
  have h2 := Int.dvd_neg.mpr h
  rwa [Int.neg_sub] at h2
theorem xs_51 {Q K : Nat} {w : Nat → Nat} {post : Int32 → SX → Prop} (hQ : rl_Q Q) (hw : rl_R Q w) (hK : K ≤ 13)
    (h : ∀ L p' o' c', rl_R Q p' → rl_R Q o' → rl_R Q c' → L ≤ K → rg_LC Q w K L → post (nI L) (nI Q, lim, sz, nI K, ro, cl, rk, rl, sy, rl_A w, rl_A p', rl_A o', rl_A c', ce, pr, rg)) :
    ∀ d k L m b p o c, k + d = K → rl_R Q p → rl_R Q o → rl_R Q c → bm_I Q w k L m b p o → ∀ f, d < f →
      wX_shortest_51 post f (nI L) (nI m) (nI b) (nI k) (nI Q) lim sz (nI K) ro cl rk rl sy (rl_A w) (rl_A p) (rl_A o) (rl_A c) ce pr rg := by
  have q5 := rl_Q5 hQ
  have q2 := rl_Q2 hQ
  intro d
  induction d with
  | zero =>
    intro k L m b p o c hk hp ho hc hI f hf
    obtain ⟨f, rfl⟩ := yw_fu hf
    obtain rfl : k = K := by omega
    have g := bm_end hI hw hp
    exact br_t (nI_le (by omega) (by omega)) (h L p o c hp ho hc g.1 g.2)
  | succ d ih =>
    intro k L m b p o c hk hp ho hc hI f hf
    obtain ⟨f, rfl⟩ := yw_fu hf
    obtain ⟨m1, m2, b1, b2, l1⟩ := bm_bounds hI
    refine br_f (nI_ge (by omega) (by omega)) (xw_disc hQ hw hp l1 (by omega) ?_)
    have hgap := xs_gap (Q := Q) (k := k) (L := L) (w := w) (p := p)
    have gQ : rl_S (fun i => p i * w (k - i)) (L + 1) % Q < Q := Nat.mod_lt _ (by omega)
    generalize hd : rl_S (fun i => p i * w (k - i)) (L + 1) % Q = g at hgap gQ ⊢
    refine pk_eq g 0 (fun z => ?_) (fun z => ?_) rfl rfl (by omega) (by omega)
    · subst z
      refine nm_r (nI_1 m) (nm_r (nI_1 k) (ih (k + 1) L (m + 1) b p o c (by omega) hp ho hc (bm_same hI ?_) f (by omega)))
      exact dv_eqv hgap (by show _ - ((0 : Nat) : Int) = _; omega)
    · refine pk_lt k (2 * L) (fun y => ?_) (fun y => ?_) rfl (pk_mul 2 L) (by omega) (by omega)
      · refine xw_mend hQ hp ho (by omega) gQ b1 b2 (fun p' sh s1 s2 s3 s4 s5 => ?_)
        exact nm_r (nI_1 m) (nm_r (nI_1 k) (ih (k + 1) L (m + 1) b p' o c (by omega) s3 ho hc (bm_mend hI (by omega) y ho s1 hgap s2 s4 s5) f (by omega)))
      · refine xw_keep hQ hp hc (fun c' c1 c2 => ?_)
        refine xw_mend hQ hp ho (by omega) gQ b1 b2 (fun p' sh s1 s2 s3 s4 s5 => ?_)
        refine nm_r (e' := nI (k + 1 - L)) ?_ ?_
        · rw [nI_1, pk_sub (by omega)]
        · refine xw_use hQ c1 ho (fun o' o1 o2 => ?_)
          exact nm_r (nI_1 k) (ih (k + 1) (k + 1 - L) 1 g p' o' c' (by omega) s3 o1 c1 (bm_grow hI (by omega) y ho s1 hgap s2 (by omega) gQ s4 s5 (fun i hi => by rw [o2 i hi, c2 i hi])) f (by omega))
theorem xs_2 {Q K : Nat} {w c : Nat → Nat} {post : Int32 → SX → Prop} (hQ : rl_Q Q) (hw : rl_R Q w) (hc : rl_R Q c) (hK : K ≤ 13)
    (h : ∀ L p' o' c', rl_R Q p' → rl_R Q o' → rl_R Q c' → L ≤ K → rg_LC Q w K L → post (nI L) (nI Q, lim, sz, nI K, ro, cl, rk, rl, sy, rl_A w, rl_A p', rl_A o', rl_A c', ce, pr, rg)) :
    ∀ d i p o, i + d = 32 → rl_R Q p → rl_R Q o → (∀ j, j < i → p j = 0) → (∀ j, j < i → o j = 0) → ∀ f, d < f →
      wX_shortest_2 post (nI Q) lim sz (nI K) ro cl rk rl f (nI i) sy (rl_A w) (rl_A p) (rl_A o) (rl_A c) ce pr rg := by
  have q2 := rl_Q2 hQ
  intro d
  induction d with
  | zero =>
    intro i p o hi hp ho zp zo f hf
    obtain ⟨f, rfl⟩ := yw_fu hf
    have e1 : vp_nar .byte 1 = nI 1 := rl_nb (v := 1) (by decide)
    refine br_t (nI_le (a := 32) (by omega) (by omega)) (nm_r (e' := rl_A (rl_u p 0 1)) (by rw [e1, rl_upd]) (nm_r (e' := rl_A (rl_u o 0 1)) (by rw [e1, rl_upd]) (Exists.intro (K + 1) ?_)))
    refine xs_51 hQ hw hK h K 0 0 1 1 (rl_u p 0 1) (rl_u o 0 1) c (by omega) (rl_Ru hp (by omega)) (rl_Ru ho (by omega)) hc (bm_init q2 rl_us (fun j a b => ?_) (fun j a b => ?_)) (K + 1) (by omega)
    · rw [rl_un (by omega)]; exact zp j (by omega)
    · rw [rl_un (by omega)]; exact zo j (by omega)
  | succ d ih =>
    intro i p o hi hp ho zp zo f hf
    obtain ⟨f, rfl⟩ := yw_fu hf
    refine br_f (nI_ge (b := 32) (by omega) (by omega)) ⟨vp_in_nI (by omega) (by omega), rl_sb i 0 rfl (by omega) rfl (by omega) ⟨vp_in_nI (by omega) (by omega), rl_sb i 0 rfl (by omega) rfl (by omega) (nm_r (nI_1 i) ?_)⟩⟩
    refine ih (i + 1) (rl_u p i 0) (rl_u o i 0) (by omega) (rl_Ru hp (by omega)) (rl_Ru ho (by omega)) (fun j hj => ?_) (fun j hj => ?_) f (by omega)
    · by_cases c1 : j = i
      · rw [c1, rl_us]
      · rw [rl_un c1]; exact zp j (by omega)
    · by_cases c1 : j = i
      · rw [c1, rl_us]
      · rw [rl_un c1]; exact zo j (by omega)
theorem xs_short {Q K : Nat} {w p o c : Nat → Nat} {post : Int32 → SX → Prop} (hQ : rl_Q Q) (hw : rl_R Q w) (hp : rl_R Q p) (ho : rl_R Q o) (hc : rl_R Q c) (hK : K ≤ 13)
    (h : ∀ L p' o' c', rl_R Q p' → rl_R Q o' → rl_R Q c' → L ≤ K → rg_LC Q w K L → post (nI L) (nI Q, lim, sz, nI K, ro, cl, rk, rl, sy, rl_A w, rl_A p', rl_A o', rl_A c', ce, pr, rg)) :
    wpX_shortest post (nI Q, lim, sz, nI K, ro, cl, rk, rl, sy, rl_A w, rl_A p, rl_A o, rl_A c, ce, pr, rg) :=
  Exists.intro 33 (xs_2 hQ hw hc hK h 32 0 p o (by omega) hp ho (fun j hj => absurd hj (by omega)) (fun j hj => absurd hj (by omega)) 33 (by omega))
end XW2
end
section
/-! the component's elimination -/
section XW3
variable {q lim sz ws ro cl rk rl : Int32} {sy wk po ol cp ce pr rg : Nat → Int32}
theorem xe_ix (j c : Nat) : nI j * 14 + nI c = nI (j * 14 + c) := by
  rw [show nI j * 14 = nI (j * 14) from pk_mul j 14, nI_add]
theorem xe_row5 {Q R c r : Nat} {e : Nat → Nat} {post : Int32 → Prop} (hQ : rl_Q Q) (he : rl_R Q e) (hR : R ≤ 13) (hc : c < 14)
    (h1 : ∀ j, r ≤ j → j < R → e (j * 14 + c) ≠ 0 → post (nI j)) (h0 : (∀ j, r ≤ j → j < R → e (j * 14 + c) = 0) → post (-1)) :
    ∀ d j, j + d = R → r ≤ j → (∀ i, r ≤ i → i < j → e (i * 14 + c) = 0) → ∀ f, d < f → wX_rowWith_5 post (nI c) q lim sz ws (nI R) cl rk rl sy wk po ol cp (rl_A e) pr rg f (nI j) := by
  have q5 := rl_Q5 hQ
  intro d
  induction d with
  | zero =>
    intro j hj hr hh f hf
    obtain ⟨f, rfl⟩ := yw_fu hf
    exact br_t (nI_le (by omega) (by omega)) (h0 (fun i a b => hh i a (by omega)))
  | succ d ih =>
    intro j hj hr hh f hf
    obtain ⟨f, rfl⟩ := yw_fu hf
    have b := he (j * 14 + c)
    refine br_f (nI_ge (by omega) (by omega)) ⟨pk_in (j * 14 + c) 196 (by omega) (xe_ix j c), ?_⟩
    refine pk_eq (e (j * 14 + c)) 0 (fun z => nm_r (nI_1 j) (ih (j + 1) (by omega) (by omega) (fun i a b => ?_) f (by omega))) (fun z => h1 j hr (by omega) z) (rl_get (j * 14 + c) (xe_ix j c) (by omega)) rfl (by omega) (by omega)
    by_cases c1 : i = j
    · rw [c1]; exact z
    · exact hh i a (by omega)
theorem xe_row {Q R c r : Nat} {e : Nat → Nat} {post : Int32 → Prop} (hQ : rl_Q Q) (he : rl_R Q e) (hR : R ≤ 13) (hr : r ≤ R) (hc : c < 14)
    (h1 : ∀ j, r ≤ j → j < R → e (j * 14 + c) ≠ 0 → post (nI j)) (h0 : (∀ j, r ≤ j → j < R → e (j * 14 + c) = 0) → post (-1)) :
    wpX_rowWith post (q, lim, sz, ws, nI R, cl, nI r, rl, sy, wk, po, ol, cp, rl_A e, pr, rg) (nI c) :=
  Exists.intro (R - r + 1) (xe_row5 hQ he hR hc h1 h0 (R - r) r (by omega) (Nat.le_refl r) (fun i a b => absurd a (by omega)) (R - r + 1) (by omega))
/-- the rows a and b change places -/
abbrev xe_sg (a b j : Nat) : Nat := if j = a then b else if j = b then a else j
theorem xe_swap2 {Q L a b : Nat} {e : Nat → Nat} {post : SX → Prop} (hQ : rl_Q Q) (he : rl_R Q e) (hL : L < 14) (ha : a < 14) (hb : b < 14)
    (h : ∀ e', rl_R Q e' → (∀ j c, c ≤ L → e' (j * 14 + c) = e (xe_sg a b j * 14 + c)) → post (q, lim, sz, ws, ro, nI L, rk, rl, sy, wk, po, ol, cp, rl_A e', pr, rg)) :
    ∀ d i e1, i + d = L + 1 → rl_R Q e1 → (∀ j c, c < 14 → e1 (j * 14 + c) = if c < i then e (xe_sg a b j * 14 + c) else e (j * 14 + c)) →
      ∀ f, d < f → wX_swap_2 post (nI a) (nI b) q lim sz ws ro (nI L) rk rl f (nI i) sy wk po ol cp (rl_A e1) pr rg := by
  have q5 := rl_Q5 hQ
  intro d
  induction d with
  | zero =>
    intro i e1 hi h1 hh f hf
    obtain ⟨f, rfl⟩ := yw_fu hf
    exact br_t (nI_lt (by omega) (by omega)) (h e1 h1 (fun j c hc => by rw [hh j c (by omega), if_pos (by omega)]))
  | succ d ih =>
    intro i e1 hi h1 hh f hf
    obtain ⟨f, rfl⟩ := yw_fu hf
    have b1 := h1 (a * 14 + i)
    have b2 := h1 (b * 14 + i)
    refine br_f (nI_nlt (by omega) (by omega)) ⟨pk_in (a * 14 + i) 196 (by omega) (xe_ix a i), nm_r (e' := nI (e1 (a * 14 + i))) (rl_get (a * 14 + i) (xe_ix a i) (by omega)) ⟨pk_in (b * 14 + i) 196 (by omega) (xe_ix b i), pk_in (a * 14 + i) 196 (by omega) (xe_ix a i), ?_⟩⟩
    refine rl_sb (a * 14 + i) (e1 (b * 14 + i)) (xe_ix a i) (by omega) (rl_get (b * 14 + i) (xe_ix b i) (by omega)) (by omega) ⟨pk_in (b * 14 + i) 196 (by omega) (xe_ix b i), ?_⟩
    refine rl_sb (b * 14 + i) (e1 (a * 14 + i)) (xe_ix b i) (by omega) rfl (by omega) (nm_r (nI_1 i) ?_)
    refine ih (i + 1) _ (by omega) (rl_Ru (rl_Ru h1 b2) b1) (fun j c hc => ?_) f (by omega)
    by_cases c1 : j * 14 + c = b * 14 + i
    · have e1' : j = b := by omega
      have e2 : c = i := by omega
      subst e1' e2
      rw [rl_us, hh a c hc, if_neg (by omega), if_pos (by omega)]
      unfold xe_sg
      by_cases z : j = a
      · rw [if_pos z, z]
      · rw [if_neg z, if_pos rfl]
    · rw [rl_un c1]
      by_cases c2 : j * 14 + c = a * 14 + i
      · have e1' : j = a := by omega
        have e2 : c = i := by omega
        subst e1' e2
        rw [rl_us, hh b c hc, if_neg (by omega), if_pos (by omega)]
        unfold xe_sg
        rw [if_pos rfl]
      · rw [rl_un c2, hh j c hc]
        by_cases c3 : c = i
        · subst c3
          rw [if_neg (by omega), if_pos (by omega)]
          unfold xe_sg
          rw [if_neg (by omega), if_neg (by omega)]
        · by_cases c4 : c < i
          · rw [if_pos c4, if_pos (by omega)]
          · rw [if_neg c4, if_neg (by omega)]
theorem xe_swap {Q L a b : Nat} {e : Nat → Nat} {post : SX → Prop} (hQ : rl_Q Q) (he : rl_R Q e) (hL : L < 14) (ha : a < 14) (hb : b < 14)
    (h : ∀ e', rl_R Q e' → (∀ j c, c ≤ L → e' (j * 14 + c) = e (xe_sg a b j * 14 + c)) → post (q, lim, sz, ws, ro, nI L, rk, rl, sy, wk, po, ol, cp, rl_A e', pr, rg)) : wpX_swap post (q, lim, sz, ws, ro, nI L, rk, rl, sy, wk, po, ol, cp, rl_A e, pr, rg) (nI a) (nI b) :=
  Exists.intro (L + 1 + 1) (xe_swap2 hQ he hL ha hb h (L + 1) 0 e (by omega) he (fun j c hc => by rw [if_neg (by omega)]) (L + 1 + 1) (by omega))
theorem xe_scale19 {Q L r x : Nat} {e : Nat → Nat} {post : SX → Prop} (hQ : rl_Q Q) (he : rl_R Q e) (hL : L < 14) (hr : r < 14) (hx : x < Q)
    (h : ∀ e', rl_R Q e' → (∀ j c, c ≤ L → e' (j * 14 + c) = if j = r then e (j * 14 + c) * x % Q else e (j * 14 + c)) → post (nI Q, lim, sz, ws, ro, nI L, rk, rl, sy, wk, po, ol, cp, rl_A e', pr, rg)) :
    ∀ d i e1, i + d = L + 1 → rl_R Q e1 → (∀ j c, c < 14 → e1 (j * 14 + c) = if j = r ∧ c < i then e (j * 14 + c) * x % Q else e (j * 14 + c)) →
      ∀ f, d < f → wX_scale_19 post (nI r) (nI x) (nI Q) lim sz ws ro (nI L) rk rl f (nI i) sy wk po ol cp (rl_A e1) pr rg := by
  have q5 := rl_Q5 hQ
  have q2 := rl_Q2 hQ
  intro d
  induction d with
  | zero =>
    intro i e1 hi h1 hh f hf
    obtain ⟨f, rfl⟩ := yw_fu hf
    refine br_t (nI_lt (by omega) (by omega)) (h e1 h1 (fun j c hc => ?_))
    rw [hh j c (by omega)]
    by_cases z : j = r
    · rw [if_pos ⟨z, by omega⟩, if_pos z]
    · rw [if_neg (fun y => z y.1), if_neg z]
  | succ d ih =>
    intro i e1 hi h1 hh f hf
    obtain ⟨f, rfl⟩ := yw_fu hf
    have b1 : e1 (r * 14 + i) * x % Q < Q := Nat.mod_lt _ (by omega)
    have b2 : e1 (r * 14 + i) * x ≤ 16 := rl_prod q5 (h1 _) hx
    refine br_f (nI_nlt (by omega) (by omega)) ⟨pk_in (r * 14 + i) 196 (by omega) (xe_ix r i), nI_ne0 (by omega) (by omega), pk_in (r * 14 + i) 196 (by omega) (xe_ix r i), ?_⟩
    refine rl_sc (r * 14 + i) (e1 (r * 14 + i) * x % Q) (xe_ix r i) (by omega) ?_ (by omega) (nm_r (nI_1 i) ?_)
    · rw [rl_get (r * 14 + i) (xe_ix r i) (by omega), pk_mul, pk_rem (by omega) (by omega) (by omega)]
    · refine ih (i + 1) _ (by omega) (rl_Ru h1 b1) (fun j c hc => ?_) f (by omega)
      by_cases c1 : j * 14 + c = r * 14 + i
      · have e1' : j = r := by omega
        have e2 : c = i := by omega
        subst e1' e2
        rw [rl_us, hh j c hc, if_neg (fun y => absurd y.2 (by omega)), if_pos ⟨rfl, by omega⟩]
      · rw [rl_un c1, hh j c hc]
        by_cases z : j = r ∧ c < i
        · rw [if_pos z, if_pos ⟨z.1, by omega⟩]
        · rw [if_neg z, if_neg (by omega)]
theorem xe_scale {Q L r c : Nat} {e : Nat → Nat} {post : SX → Prop} (hQ : rl_Q Q) (he : rl_R Q e) (hL : L < 14) (hr : r < 14) (hc : c < 14) (h0 : e (r * 14 + c) ≠ 0)
    (h : ∀ e' x, rl_R Q e' → e (r * 14 + c) * x % Q = 1 → (∀ j c, c ≤ L → e' (j * 14 + c) = if j = r then e (j * 14 + c) * x % Q else e (j * 14 + c)) → post (nI Q, lim, sz, ws, ro, nI L, rk, rl, sy, wk, po, ol, cp, rl_A e', pr, rg)) :
    wpX_scale post (nI Q, lim, sz, ws, ro, nI L, rk, rl, sy, wk, po, ol, cp, rl_A e, pr, rg) (nI r) (nI c) := by
  refine ⟨pk_in (r * 14 + c) 196 (by omega) (xe_ix r c), xw_inv hQ (Nat.pos_of_ne_zero h0) (he _) (rl_get (r * 14 + c) (xe_ix r c) (by omega)) (fun x hx ex => Exists.intro (L + 1 + 1) ?_)⟩
  exact xe_scale19 hQ he hL hr hx (fun e' a b => h e' x a ex b) (L + 1) 0 e (by omega) he (fun j c hc => by rw [if_neg (fun y => absurd y.2 (by omega))]) (L + 1 + 1) (by omega)
theorem xe_sub3 {Q L j r x : Nat} {e : Nat → Nat} {post : SX → Prop} (hQ : rl_Q Q) (he : rl_R Q e) (hL : L < 14) (hj : j < 14) (hr : r < 14) (hjr : j ≠ r) (hx : x < Q)
    (h : ∀ e', rl_R Q e' → (∀ i c, c ≤ L → e' (i * 14 + c) = if i = j then (e (i * 14 + c) + Q * Q - x * e (r * 14 + c)) % Q else e (i * 14 + c)) → post (nI Q, lim, sz, ws, ro, nI L, rk, rl, sy, wk, po, ol, cp, rl_A e', pr, rg)) :
    ∀ d t e1, t + d = L + 1 → rl_R Q e1 → (∀ i c, c < 14 → e1 (i * 14 + c) = if i = j ∧ c < t then (e (i * 14 + c) + Q * Q - x * e (r * 14 + c)) % Q else e (i * 14 + c)) →
      ∀ f, d < f → wX_subtract_3 post (nI j) (nI r) (nI x) (nI Q) lim sz ws ro (nI L) rk rl f (nI t) sy wk po ol cp (rl_A e1) pr rg := by
  have q5 := rl_Q5 hQ
  have q2 := rl_Q2 hQ
  intro d
  induction d with
  | zero =>
    intro t e1 ht h1 hh f hf
    obtain ⟨f, rfl⟩ := yw_fu hf
    refine br_t (nI_lt (by omega) (by omega)) (h e1 h1 (fun i c hc => ?_))
    rw [hh i c (by omega)]
    by_cases z : i = j
    · rw [if_pos ⟨z, by omega⟩, if_pos z]
    · rw [if_neg (fun y => z y.1), if_neg z]
  | succ d ih =>
    intro t e1 ht h1 hh f hf
    obtain ⟨f, rfl⟩ := yw_fu hf
    have b1 : (e1 (j * 14 + t) + Q * Q - x * e1 (r * 14 + t)) % Q < Q := Nat.mod_lt _ (by omega)
    refine br_f (nI_nlt (by omega) (by omega)) ⟨pk_in (j * 14 + t) 196 (by omega) (xe_ix j t), pk_in (r * 14 + t) 196 (by omega) (xe_ix r t), ?_⟩
    refine nm_r (e' := nI (e1 (j * 14 + t)) - nI x * nI (e1 (r * 14 + t))) ?_ (xw_wrap hQ (h1 _) hx (h1 _) rfl ⟨pk_in (j * 14 + t) 196 (by omega) (xe_ix j t), rl_sc (j * 14 + t) _ (xe_ix j t) (by omega) rfl (by omega) (nm_r (nI_1 t) ?_)⟩)
    · rw [rl_get (j * 14 + t) (xe_ix j t) (by omega), rl_get (r * 14 + t) (xe_ix r t) (by omega)]
    · refine ih (t + 1) _ (by omega) (rl_Ru h1 b1) (fun i c hc => ?_) f (by omega)
      by_cases c1 : i * 14 + c = j * 14 + t
      · have e1' : i = j := by omega
        have e2 : c = t := by omega
        subst e1' e2
        rw [rl_us, hh i c hc, hh r c hc, if_neg (fun y => absurd y.2 (by omega)), if_neg (fun y => absurd y.2 (by omega)), if_pos ⟨rfl, by omega⟩]
      · rw [rl_un c1, hh i c hc]
        by_cases z : i = j ∧ c < t
        · rw [if_pos z, if_pos ⟨z.1, by omega⟩]
        · rw [if_neg z, if_neg (by omega)]
theorem xe_sub {Q L j r x : Nat} {e : Nat → Nat} {p : Int32} {post : SX → Prop} (hQ : rl_Q Q) (he : rl_R Q e) (hL : L < 14) (hj : j < 14) (hr : r < 14) (hjr : j ≠ r) (hx : x < Q) (hp : p = nI x)
    (h : ∀ e', rl_R Q e' → (∀ i c, c ≤ L → e' (i * 14 + c) = if i = j then (e (i * 14 + c) + Q * Q - x * e (r * 14 + c)) % Q else e (i * 14 + c)) → post (nI Q, lim, sz, ws, ro, nI L, rk, rl, sy, wk, po, ol, cp, rl_A e', pr, rg)) :
    wpX_subtract post (nI Q, lim, sz, ws, ro, nI L, rk, rl, sy, wk, po, ol, cp, rl_A e, pr, rg) (nI j) (nI r) p := by
  subst hp
  exact Exists.intro (L + 1 + 1) (xe_sub3 hQ he hL hj hr hjr hx h (L + 1) 0 e (by omega) he (fun i c hc => by rw [if_neg (fun y => absurd y.2 (by omega))]) (L + 1 + 1) (by omega))
theorem xe_clr2 {Q R L r c : Nat} {e : Nat → Nat} {post : SX → Prop} (hQ : rl_Q Q) (he : rl_R Q e) (hL : L < 14) (hR : R ≤ 13) (hr : r < 14) (hc : c ≤ L)
    (h : ∀ e', rl_R Q e' → (∀ i k, k ≤ L → e' (i * 14 + k) = if i < R ∧ i ≠ r then (e (i * 14 + k) + Q * Q - e (i * 14 + c) * e (r * 14 + k)) % Q else e (i * 14 + k)) → post (nI Q, lim, sz, ws, nI R, nI L, rk, rl, sy, wk, po, ol, cp, rl_A e', pr, rg)) :
    ∀ d j e1, j + d = R → rl_R Q e1 → (∀ i k, k ≤ L → e1 (i * 14 + k) = if i < j ∧ i ≠ r then (e (i * 14 + k) + Q * Q - e (i * 14 + c) * e (r * 14 + k)) % Q else e (i * 14 + k)) →
      ∀ f, d < f → wX_clearColumn_2 post (nI r) (nI c) f (nI j) (nI Q) lim sz ws (nI R) (nI L) rk rl sy wk po ol cp (rl_A e1) pr rg := by
  have q5 := rl_Q5 hQ
  have q2 := rl_Q2 hQ
  intro d
  induction d with
  | zero =>
    intro j e1 hj h1 hh f hf
    obtain ⟨f, rfl⟩ := yw_fu hf
    obtain rfl : j = R := by omega
    exact br_t (nI_le (by omega) (by omega)) (h e1 h1 hh)
  | succ d ih =>
    intro j e1 hj h1 hh f hf
    obtain ⟨f, rfl⟩ := yw_fu hf
    have b1 := h1 (j * 14 + c)
    refine br_f (nI_ge (by omega) (by omega)) ⟨pk_in (j * 14 + c) 196 (by omega) (xe_ix j c), nm_r (e' := nI (e1 (j * 14 + c))) (rl_get (j * 14 + c) (xe_ix j c) (by omega)) ?_⟩
    refine pk_eq j r (fun z => nm_r (nI_1 j) (ih (j + 1) e1 (by omega) h1 (fun i k hk => ?_) f (by omega))) (fun z => ?_) rfl rfl (by omega) (by omega)
    · rw [hh i k hk]
      by_cases y : i < j ∧ i ≠ r
      · rw [if_pos y, if_pos ⟨by omega, y.2⟩]
      · rw [if_neg y, if_neg (by omega)]
    · have ej : ∀ k, k ≤ L → e1 (j * 14 + k) = e (j * 14 + k) := fun k hk => by rw [hh j k hk, if_neg (by omega)]
      have er : ∀ k, k ≤ L → e1 (r * 14 + k) = e (r * 14 + k) := fun k hk => by rw [hh r k hk, if_neg (by omega)]
      refine pk_eq (e1 (j * 14 + c)) 0 (fun y => nm_r (nI_1 j) (ih (j + 1) e1 (by omega) h1 (fun i k hk => ?_) f (by omega))) (fun y => ?_) rfl rfl (by omega) (by omega)
      · rw [hh i k hk]
        by_cases x : i = j
        · subst x
          rw [if_neg (by omega), if_pos ⟨by omega, z⟩, ← ej c hc, y, Nat.zero_mul, Nat.sub_zero, Nat.add_mul_mod_self_left, Nat.mod_eq_of_lt (he _)]
        · by_cases x2 : i < j ∧ i ≠ r
          · rw [if_pos x2, if_pos ⟨by omega, x2.2⟩]
          · rw [if_neg x2, if_neg (by omega)]
      · refine xe_sub hQ h1 hL (by omega) hr z b1 rfl (fun e' a b => nm_r (nI_1 j) (ih (j + 1) e' (by omega) a (fun i k hk => ?_) f (by omega)))
        rw [b i k hk]
        by_cases x : i = j
        · subst x
          rw [if_pos rfl, if_pos ⟨by omega, z⟩, ej k hk, ej c hc, er k hk]
        · rw [if_neg x, hh i k hk]
          by_cases x2 : i < j ∧ i ≠ r
          · rw [if_pos x2, if_pos ⟨by omega, x2.2⟩]
          · rw [if_neg x2, if_neg (by omega)]
theorem xe_clr {Q R L r c : Nat} {e : Nat → Nat} {post : SX → Prop} (hQ : rl_Q Q) (he : rl_R Q e) (hL : L < 14) (hR : R ≤ 13) (hr : r < 14) (hc : c ≤ L)
    (h : ∀ e', rl_R Q e' → (∀ i k, k ≤ L → e' (i * 14 + k) = if i < R ∧ i ≠ r then (e (i * 14 + k) + Q * Q - e (i * 14 + c) * e (r * 14 + k)) % Q else e (i * 14 + k)) → post (nI Q, lim, sz, ws, nI R, nI L, rk, rl, sy, wk, po, ol, cp, rl_A e', pr, rg)) :
    wpX_clearColumn post (nI Q, lim, sz, ws, nI R, nI L, rk, rl, sy, wk, po, ol, cp, rl_A e, pr, rg) (nI r) (nI c) :=
  Exists.intro (R + 1) (xe_clr2 hQ he hL hR hr hc h R 0 e (by omega) he (fun i k hk => by rw [if_neg (by omega)]) (R + 1) (by omega))
end XW3
end
section
/-! the component's eliminate and findRegister -/
section XW4
variable {q lim sz ws ro cl rk rl : Int32} {sy wk po ol cp ce pr rg : Nat → Int32}
/-- a count less one, and a pivot's row, as ints -/
def xf_dn : Nat → Int32
  | 0 => -1
  | c + 1 => nI c
theorem xf_dn1 (c : Nat) : nI c + (-1) = xf_dn c := by
  cases c with
  | zero => decide
  | succ c => exact pk_m1 c
theorem xf_dn2 (c : Nat) : nI c - 1 = xf_dn c := by
  cases c with
  | zero => decide
  | succ c => exact nI_pred c
theorem xf_neg : (-1 : Int32) < 0 := by decide
theorem xf_nar : vp_nar .byte (-1) = -1 := by rw [vp_nar_byte]; decide
abbrev xf_M (e : Nat → Nat) : Nat → Nat → Nat := fun j k => e (j * 14 + k)
theorem xf_el12 {Q R L : Nat} {A0 : Nat → Nat → Nat} {post : SX → Prop} (hQ : rl_Q Q) (hL : L ≤ 12) (hR : R ≤ 13)
    (h : ∀ e' r g pr', rl_R Q e' → ga_I Q R L 0 r (xf_M e') A0 g → (∀ k, k < L → pr' k = xf_dn (g k)) → post (nI Q, lim, sz, ws, nI R, nI L, nI r, rl, sy, wk, po, ol, cp, rl_A e', pr', rg)) :
    ∀ d e r g pr, d ≤ L → rl_R Q e → ga_I Q R L d r (xf_M e) A0 g → (∀ k, d ≤ k → k < L → pr k = xf_dn (g k)) → ∀ f, d < f →
      wX_eliminate_12 post f (xf_dn d) (nI Q) lim sz ws (nI R) (nI L) (nI r) rl sy wk po ol cp (rl_A e) pr rg := by
  have q2 := rl_Q2 hQ
  intro d
  induction d with
  | zero =>
    intro e r g pr _ he hI hp f hf
    obtain ⟨f, rfl⟩ := yw_fu hf
    exact br_t xf_neg (h e r g pr he hI (fun k hk => hp k (Nat.zero_le k) hk))
  | succ c ih =>
    intro e r g pr hd he hI hp f hf
    obtain ⟨f, rfl⟩ := yw_fu hf
    have hr : r ≤ R := hI.1
    have hcl : (nI c).toNatClampNeg = c := nI_clamp (by omega)
    have hg0 : g c = 0 := hI.2.2.2.1 c (by omega)
    refine br_f (nI_pos (by omega)) ⟨vp_in_nI (by omega) (by omega), nm_r (e' := upd pr c (-1)) (by show upd pr (nI c).toNatClampNeg (vp_nar .byte (-1)) = _; rw [hcl, xf_nar]) ?_⟩
    refine xe_row hQ he hR hr (by omega) (fun j0 j1 j2 j3 => ?_) (fun hz => ?_)
    · refine br_f (nI_pos (by omega)) (xe_swap hQ he (by omega) (by omega) (by omega) (fun e1 a1 s1 => ?_))
      have n1 : e1 (r * 14 + c) = e (j0 * 14 + c) := by
        rw [s1 r c (by omega)]
        unfold xe_sg
        by_cases z : r = j0
        · rw [if_pos z, z]
        · rw [if_neg z, if_pos rfl]
      refine xe_scale hQ a1 (by omega) (by omega) (by omega) (by rw [n1]; exact j3) (fun e2 x a2 x1 s2 => ?_)
      refine xe_clr hQ a2 (by omega) hR (by omega) (by omega) (fun e3 a3 s3 => ?_)
      have hst : ga_St Q R L c r j0 x (xf_M e) (xf_M e3) := by
        have f0 : ∀ k, k ≤ L → e1 (r * 14 + k) = e (j0 * 14 + k) := by
          intro k hk
          rw [s1 r k hk]
          unfold xe_sg
          by_cases z : r = j0
          · rw [if_pos z, z]
          · rw [if_neg z, if_pos rfl]
        have f1 : ∀ k, k ≤ L → e2 (r * 14 + k) = e (j0 * 14 + k) * x % Q := fun k hk => by rw [s2 r k hk, if_pos rfl, f0 k hk]
        have f2 : ∀ k, k ≤ L → e3 (r * 14 + k) = e2 (r * 14 + k) := fun k hk => by rw [s3 r k hk, if_neg (fun z => z.2 rfl)]
        have f3 : ∀ j, j ≠ r → ∀ k, k ≤ L → e2 (j * 14 + k) = e ((if j = j0 then r else j) * 14 + k) := by
          intro j hj k hk
          rw [s2 j k hk, if_neg hj, s1 j k hk]
          unfold xe_sg
          by_cases z : j = j0
          · rw [if_pos z, if_pos z]
          · rw [if_neg z, if_neg z, if_neg hj]
        refine ⟨j1, j2, by show e (j0 * 14 + c) * x % Q = 1; rw [← n1]; exact x1, fun k hk => ?_, fun j hj hjr k hk => ?_⟩
        · show e3 (r * 14 + k) = e (j0 * 14 + k) * x % Q
          rw [f2 k hk, f1 k hk]
        · show e3 (j * 14 + k) = (e ((if j = j0 then r else j) * 14 + k) + Q * Q - e ((if j = j0 then r else j) * 14 + c) * e3 (r * 14 + k)) % Q
          rw [s3 j k hk, if_pos ⟨hj, hjr⟩, f3 j hjr k hk, f3 j hjr c (by omega), f2 k hk]
      have hI' := ga_pivot (fun j k => he (j * 14 + k)) (by omega) hI hst
      refine ⟨vp_in_nI (by omega) (by omega), nm_r (e' := upd (upd pr c (-1)) c (nI r)) ?_ (nm_r (nI_1 r) (nm_r (xf_dn1 c) ?_))⟩
      · show upd (upd pr c (-1)) (nI c).toNatClampNeg (vp_nar .byte (nI r).toInt8.toInt32) = _
        rw [hcl, rl_i8 (by omega), rl_nb (by omega)]
      · refine ih e3 (r + 1) (rl_u g c (r + 1)) _ (by omega) a3 hI' (fun k k1 k2 => ?_) f (by omega)
        by_cases z : k = c
        · rw [z, pk_us, rl_us]; rfl
        · rw [pk_un z, pk_un z, rl_un z]; exact hp k (by omega) k2
    · refine br_t xf_neg (nm_r (xf_dn1 c) ?_)
      refine ih e r g _ (by omega) he (ga_skip hI hz) (fun k k1 k2 => ?_) f (by omega)
      by_cases z : k = c
      · rw [z, pk_us, hg0]; rfl
      · rw [pk_un z]; exact hp k (by omega) k2
theorem xf_elim {Q R L : Nat} {e : Nat → Nat} {post : SX → Prop} (hQ : rl_Q Q) (hL : L ≤ 12) (hR : R ≤ 13) (he : rl_R Q e)
    (h : ∀ e' r g pr', rl_R Q e' → ga_I Q R L 0 r (xf_M e') (xf_M e) g → (∀ k, k < L → pr' k = xf_dn (g k)) → post (nI Q, lim, sz, ws, nI R, nI L, nI r, rl, sy, wk, po, ol, cp, rl_A e', pr', rg)) :
    wpX_eliminate post (nI Q, lim, sz, ws, nI R, nI L, rk, rl, sy, wk, po, ol, cp, rl_A e, pr, rg) := by
  refine nm_r (xf_dn2 L) (Exists.intro (L + 1) ?_)
  exact xf_el12 hQ hL hR h L e 0 (fun _ => 0) pr (Nat.le_refl L) he (ga_init Q R L (xf_M e)) (fun k k1 k2 => absurd k1 (by omega)) (L + 1) (by omega)
/-- the register is read off -/
theorem xf_124 {Q R L r : Nat} {e : Nat → Nat} {g : Nat → Nat} {post : SX → Prop} (hQ : rl_Q Q) (hL : L ≤ 12) (he : rl_R Q e) (hr : r ≤ 13) (hg : ∀ k, k < L → g k ≤ r) (hp : ∀ k, k < L → pr k = xf_dn (g k))
    (h : ∀ x, rl_R Q x → (∀ i, i < L → x (i + 1) = ga_Y L (xf_M e) g i) → post (nI Q, lim, sz, ws, ro, nI L, rk, rl, sy, wk, po, ol, cp, rl_A e, pr, rl_A x)) :
    ∀ d i x, i + d = L → rl_R Q x → (∀ t, t < i → x (t + 1) = ga_Y L (xf_M e) g t) → ∀ f, d < f → wX_findRegister_124 post (nI Q) lim sz ws ro (nI L) rk rl f (nI i) sy wk po ol cp (rl_A e) pr (rl_A x) := by
  have q5 := rl_Q5 hQ
  have q2 := rl_Q2 hQ
  intro d
  induction d with
  | zero =>
    intro i x hi hx hh f hf
    obtain ⟨f, rfl⟩ := yw_fu hf
    exact br_t (nI_le (by omega) (by omega)) (h x hx (fun t ht => hh t (by omega)))
  | succ d ih =>
    intro i x hi hx hh f hf
    obtain ⟨f, rfl⟩ := yw_fu hf
    have hgi := hg i (by omega)
    have ei := hp i (by omega)
    refine br_f (nI_ge (by omega) (by omega)) ⟨vp_in_nI (by omega) (by omega), nm_r (e' := xf_dn (g i)) (by rw [nI_clamp (by omega), ei]) ?_⟩
    have hY : ga_Y L (xf_M e) g i = if g i = 0 then 0 else e ((g i - 1) * 14 + L) := rfl
    generalize g i = t at hgi hY ⊢
    cases t with
    | zero =>
      refine br_f (show ¬ (0 : Int32) ≤ -1 by decide) ⟨pk_in (i + 1) 14 (by omega) (nI_1 i), rl_sb (i + 1) 0 (nI_1 i) (by omega) rfl (by omega) (nm_r (nI_1 i) ?_)⟩
      rw [if_pos rfl] at hY
      refine ih (i + 1) _ (by omega) (rl_Ru hx (by omega)) (fun t ht => ?_) f (by omega)
      by_cases z : t = i
      · rw [z, rl_us, hY]
      · rw [rl_un (by omega)]; exact hh t (by omega)
    | succ p =>
      have b := he (p * 14 + L)
      refine br_t (nI_pos' (n := p) (by omega)) ⟨pk_in (p * 14 + L) 196 (by omega) (xe_ix p L), pk_in (i + 1) 14 (by omega) (nI_1 i), rl_sb (i + 1) (e (p * 14 + L)) (nI_1 i) (by omega) (rl_get (p * 14 + L) (xe_ix p L) (by omega)) (by omega) (nm_r (nI_1 i) ?_)⟩
      rw [if_neg (by omega), Nat.add_sub_cancel] at hY
      refine ih (i + 1) _ (by omega) (rl_Ru hx b) (fun t ht => ?_) f (by omega)
      by_cases z : t = i
      · rw [z, rl_us, hY]
      · rw [rl_un (by omega)]; exact hh t (by omega)
theorem xf_ix1 (j i : Nat) : nI j * 14 + nI (i + 1) - 1 = nI (j * 14 + i) := by
  rw [xe_ix, ← Nat.add_assoc]
  exact nI_pred _
/-- one row of the equations -/
theorem xf_47 {Q L j : Nat} {e w : Nat → Nat} {post : SX → Prop} {J : Int32 → (Nat → Int32) → (Nat → Int32) → (Nat → Int32) → (Nat → Int32) → (Nat → Int32) → (Nat → Int32) → (Nat → Int32) → (Nat → Int32) → Prop}
    (hQ : rl_Q Q) (hL : L ≤ 12) (hj : j ≤ 12) (hw : rl_R Q w)
    (h : ∀ e', rl_R Q e' → (∀ c, c < L → e' (j * 14 + c) = w (L + j - (c + 1))) → e' (j * 14 + L) = w (L + j) → (∀ t, t < j * 14 → e' t = e t) → J (nI (j + 1)) sy (rl_A w) po ol cp (rl_A e') pr rg) :
    ∀ d i e1, i + d = L → rl_R Q e1 → (∀ c, c < i → e1 (j * 14 + c) = w (L + j - (c + 1))) → (∀ t, t < j * 14 → e1 t = e t) →
      ∀ f, d < f → wX_findRegister_47 post J (nI j) q lim sz ws ro (nI L) rk (nI L) f (nI (i + 1)) sy (rl_A w) po ol cp (rl_A e1) pr rg := by
  have q5 := rl_Q5 hQ
  intro d
  induction d with
  | zero =>
    intro i e1 hi h1 hh hk f hf
    obtain ⟨f, rfl⟩ := yw_fu hf
    have b := hw (L + j)
    refine br_t (nI_lt (by omega) (by omega)) ⟨pk_in (L + j) 64 (by omega) (nI_add L j), pk_in (j * 14 + L) 196 (by omega) (xe_ix j L), rl_sb (j * 14 + L) (w (L + j)) (xe_ix j L) (by omega) (rl_get (L + j) (nI_add L j) (by omega)) (by omega) (nm_r (nI_1 j) ?_)⟩
    refine h _ (rl_Ru h1 b) (fun c hc => ?_) rl_us (fun t ht => ?_)
    · rw [rl_un (by omega)]; exact hh c (by omega)
    · rw [rl_un (by omega)]; exact hk t ht
  | succ d ih =>
    intro i e1 hi h1 hh hk f hf
    obtain ⟨f, rfl⟩ := yw_fu hf
    have b := hw (L + j - (i + 1))
    have ei : nI L + nI j - nI (i + 1) = nI (L + j - (i + 1)) := by rw [nI_add, pk_sub (by omega)]
    refine br_f (nI_nlt (by omega) (by omega)) ⟨pk_in (L + j - (i + 1)) 64 (by omega) ei, pk_in (j * 14 + i) 196 (by omega) (xf_ix1 j i), rl_sb (j * 14 + i) (w (L + j - (i + 1))) (xf_ix1 j i) (by omega) (rl_get (L + j - (i + 1)) ei (by omega)) (by omega) (nm_r (nI_1 (i + 1)) ?_)⟩
    refine ih (i + 1) _ (by omega) (rl_Ru h1 b) (fun c hc => ?_) (fun t ht => ?_) f (by omega)
    · by_cases z : c = i
      · rw [z, rl_us]
      · rw [rl_un (by omega)]; exact hh c (by omega)
    · rw [rl_un (by omega)]; exact hk t ht
/-- the equations, their elimination, the register -/
theorem xf_37 {Q k L : Nat} {w x : Nat → Nat} {post : SX → Prop} (hQ : rl_Q Q) (hw : rl_R Q w) (hx : rl_R Q x) (hk : k ≤ 12) (hL : L ≤ k) (hex : ∃ c, rg_Gen Q w k L c)
    (h : ∀ e' r pr' x', rl_R Q e' → rl_R Q x' → rg_F Q w k L r x' → post (nI Q, lim, sz, ws, nI (k - L), nI L, nI r, nI L, sy, rl_A w, po, ol, cp, rl_A e', pr', rl_A x')) :
    ∀ d j e, j + d = k - L → rl_R Q e → (∀ i, i < j → (∀ c, c < L → e (i * 14 + c) = w (L + i - (c + 1))) ∧ e (i * 14 + L) = w (L + i)) →
      ∀ f, d < f → wX_findRegister_37 post (nI Q) lim sz ws (nI (k - L)) (nI L) rk (nI L) f (nI j) sy (rl_A w) po ol cp (rl_A e) pr (rl_A x) := by
  have q2 := rl_Q2 hQ
  intro d
  induction d with
  | zero =>
    intro j e hj he hh f hf
    obtain ⟨f, rfl⟩ := yw_fu hf
    refine br_t (nI_le (by omega) (by omega)) (xf_elim hQ (by omega) (by omega) he (fun e' r g pr' a hI hp => Exists.intro (L + 1) ?_))
    have hr := hI.1
    refine xf_124 (R := k - L) (r := r) (g := g) hQ (by omega) a (by omega) (fun t ht => ?_) hp (fun x' b1 b2 => h e' r pr' x' a b1 (ga_end (by omega) hw hL (fun i hi => hh i (by omega)) hex hI b1 b2)) L 0 x (by omega) hx (fun t ht => absurd ht (by omega)) (L + 1) (by omega)
    by_cases z : g t = 0
    · omega
    · exact (hI.2.2.2.2.1 t (Nat.zero_le t) ht z).1
  | succ d ih =>
    intro j e hj he hh f hf
    obtain ⟨f, rfl⟩ := yw_fu hf
    refine br_f (nI_ge (by omega) (by omega)) (Exists.intro (L + 1) ?_)
    refine xf_47 hQ (by omega) (by omega) hw (fun e' a b1 b2 b3 => ?_) L 0 e (by omega) he (fun c hc => absurd hc (by omega)) (fun _ _ => rfl) (L + 1) (by omega)
    refine ih (j + 1) e' (by omega) a (fun i hi => ?_) f (by omega)
    by_cases z : i = j
    · subst z
      exact ⟨b1, b2⟩
    · have hb := hh i (by omega)
      refine ⟨fun c hc => ?_, ?_⟩
      · rw [b3 _ (by omega)]; exact hb.1 c hc
      · rw [b3 _ (by omega)]; exact hb.2
theorem xf_find {Q k : Nat} {s w p o c e x : Nat → Nat} {post : SX → Prop} (hQ : rl_Q Q) (hs : rl_R Q s) (hw : rl_R Q w) (hp : rl_R Q p) (ho : rl_R Q o) (hc : rl_R Q c) (he : rl_R Q e) (hx : rl_R Q x) (hk : k ≤ 12)
    (h : ∀ L r w' p' o' c' e' pr' x', rl_R Q w' → rl_R Q p' → rl_R Q o' → rl_R Q c' → rl_R Q e' → rl_R Q x' → (∀ j, j < k → w' j = s j) → L ≤ k → rg_LC Q w' k L → rg_F Q w' k L r x' →
      post (nI Q, lim, sz, nI k, nI (k - L), nI L, nI r, nI L, rl_A s, rl_A w', rl_A p', rl_A o', rl_A c', rl_A e', pr', rl_A x')) :
    wpX_findRegister post (nI Q, lim, sz, ws, ro, cl, rk, rl, rl_A s, rl_A w, rl_A p, rl_A o, rl_A c, rl_A e, pr, rl_A x) (nI k) := by
  unfold wpX_findRegister
  dsimp only
  refine xw_take (a := 0) hQ hs hw (Nat.zero_le k) hk (fun w' w1 w2 => ?_)
  refine xs_short (K := k - 0) hQ w1 hp ho hc (by omega) (fun L p' o' c' r1 r2 r3 hL hLC => ?_)
  rw [Nat.sub_zero] at hL hLC
  refine nm_r (e' := nI (k - L)) (by rw [Nat.sub_zero, pk_sub hL]) (Exists.intro (k - L + 1) ?_)
  obtain ⟨cc, -, hcc⟩ := hLC.1
  exact xf_37 hQ w1 hx hk hL ⟨cc, hcc⟩ (fun e' r pr' x' a1 a2 a3 => h L r w' p' o' c' e' pr' x' w1 r1 r2 r3 a1 a2 (fun j hj => by rw [w2 j (by omega), Nat.zero_add]) hL hLC a3) (k - L) 0 e (by omega) he (fun i hi => absurd hi (by omega)) (k - L + 1) (by omega)
/-- one more symbol -/
theorem xf_step4 {Q L n : Nat} {w x : Nat → Nat} {post : SX → Prop} (hQ : rl_Q Q) (hw : rl_R Q w) (hx : rl_R Q x) (hL : L ≤ 13) (hn : L ≤ n) (hn2 : n < 60)
    (h : post (nI Q, lim, sz, nI (n + 1), ro, cl, rk, nI L, sy, rl_A (rl_u w n (rl_S (yw_F x w n) L % Q)), po, ol, cp, ce, pr, rl_A x)) :
    ∀ d i, i + d = L → ∀ f, d < f → wX_step_4 post (nI Q) lim sz (nI n) ro cl rk (nI L) sy (rl_A w) po ol cp ce pr (rl_A x) f (nI (rl_S (yw_F x w n) i)) (nI (i + 1)) := by
  have q5 := rl_Q5 hQ
  have q2 := rl_Q2 hQ
  intro d
  induction d with
  | zero =>
    intro i hi f hf
    obtain ⟨f, rfl⟩ := yw_fu hf
    obtain rfl : i = L := by omega
    have hb := yw_Fle hQ hx hw n hL
    have b1 : rl_S (yw_F x w n) i % Q < Q := Nat.mod_lt _ (by omega)
    refine br_t (nI_lt (by omega) (by omega)) ⟨nI_ne0 (by omega) (by omega), vp_in_nI (by omega) (by omega), rl_sc n (rl_S (yw_F x w n) i % Q) rfl (by omega) (pk_rem (by omega) (by omega) (by omega)) (by omega) (nm_r (nI_1 n) h)⟩
  | succ d ih =>
    intro i hi f hf
    obtain ⟨f, rfl⟩ := yw_fu hf
    refine br_f (nI_nlt (by omega) (by omega)) ⟨vp_in_nI (by omega) (by omega), pk_in (n - (i + 1)) 64 (by omega) (pk_sub (by omega)), ?_⟩
    refine nm_r (e' := nI (rl_S (yw_F x w n) (i + 1))) ?_ (nm_r (nI_1 (i + 1)) (ih (i + 1) (by omega) f (by omega)))
    rw [rl_get (i + 1) rfl (by omega), rl_get (n - (i + 1)) (pk_sub (by omega)) (by omega), pk_mul, nI_add]
    rfl
theorem xf_step {Q L n : Nat} {w x : Nat → Nat} {post : SX → Prop} (hQ : rl_Q Q) (hw : rl_R Q w) (hx : rl_R Q x) (hL : L ≤ 13) (hn : L ≤ n) (hn2 : n < 60)
    (h : post (nI Q, lim, sz, nI (n + 1), ro, cl, rk, nI L, sy, rl_A (rl_u w n (rl_S (yw_F x w n) L % Q)), po, ol, cp, ce, pr, rl_A x)) : wpX_step post (nI Q, lim, sz, nI n, ro, cl, rk, nI L, sy, rl_A w, po, ol, cp, ce, pr, rl_A x) :=
  Exists.intro (L + 1) (xf_step4 hQ hw hx hL hn hn2 h L 0 (by omega) (L + 1) (by omega))
end XW4
end
section
/-! the component's answers -/
section XW5
variable {q lim sz ws ro cl rk rl : Int32} {sy wk po ol cp ce pr rg : Nat → Int32}
theorem xa_sym {p0 : Int32} {post : Int32 → Prop} (h0 : p0 < 0 ∨ q ≤ p0 → post 0) (h1 : ¬ p0 < 0 → ¬ q ≤ p0 → post 1) : wpX_isSymbol post (q, lim, sz, ws, ro, cl, rk, rl, sy, wk, po, ol, cp, ce, pr, rg) p0 :=
  br_c (fun a => h0 (Or.inl a)) (fun a => br_c (fun b => h0 (Or.inr b)) (fun b => h1 a b))
theorem xa_reg15 {Q L r : Nat} {post : Int32 → SX → Prop} (hL : L ≤ 13) (hr : r ≤ L) (h : post (nI (Q ^ (L - r))) (nI Q, lim, sz, ws, ro, nI L, rk, rl, sy, wk, po, ol, cp, ce, pr, rg)) :
    ∀ d i, i + d = L - r → ∀ f, d < f → wX_registers_15 post (nI Q) lim sz ws ro (nI L) rk rl sy wk po ol cp ce pr rg f (nI (Q ^ i)) (nI (r + i)) := by
  intro d
  induction d with
  | zero =>
    intro i hi f hf
    obtain ⟨f, rfl⟩ := yw_fu hf
    obtain rfl : i = L - r := by omega
    exact br_t (nI_le (by omega) (by omega)) h
  | succ d ih =>
    intro i hi f hf
    obtain ⟨f, rfl⟩ := yw_fu hf
    exact br_f (nI_ge (by omega) (by omega)) (nm_r (e' := nI (Q ^ (i + 1))) (pk_mul _ _) (nm_r (nI_1 (r + i)) (ih (i + 1) (by omega) f (by omega))))
theorem xa_pred22 {Q N L k : Nat} {w x : Nat → Nat} {post : Int32 → SX → Prop} (hQ : rl_Q Q) (hw : rl_R Q w) (hx : rl_R Q x) (hN : N ≤ 12) (hL : L ≤ N) (hk : k ≤ 40)
    (h : ∀ w', rl_R Q w' → post (nI (rg_X Q L x N w (k + 1) (N + k))) (nI Q, lim, sz, nI (N + (k + 1)), ro, cl, rk, nI L, sy, rl_A w', po, ol, cp, ce, pr, rl_A x)) :
    ∀ d t, t + d = k + 1 → ∀ f, d < f → wX_predict_22 post (nI k) f (nI t) (nI Q) lim sz (nI (N + t)) ro cl rk (nI L) sy (rl_A (rg_X Q L x N w t)) po ol cp ce pr (rl_A x) := by
  have q2 : 0 < Q := by have := rl_Q2 hQ; omega
  intro d
  induction d with
  | zero =>
    intro t ht f hf
    obtain ⟨f, rfl⟩ := yw_fu hf
    obtain rfl : t = k + 1 := by omega
    have e : nI (N + (k + 1)) - 1 = nI (N + k) := nI_pred (N + k)
    refine br_t (nI_lt (by omega) (by omega)) ⟨pk_in (N + k) 64 (by omega) e, ?_⟩
    rw [rl_get (N + k) e (by omega)]
    exact h _ (rg_XR q2 hw _)
  | succ d ih =>
    intro t ht f hf
    obtain ⟨f, rfl⟩ := yw_fu hf
    exact br_f (nI_nlt (by omega) (by omega)) (xf_step hQ (rg_XR q2 hw t) hx (by omega) (by omega) (by omega) (nm_r (nI_1 t) (ih (t + 1) (by omega) f (by omega))))
theorem xa_hold21 {Q N L : Nat} {s x : Nat → Nat} {post : Int32 → SX → Prop} (hQ : rl_Q Q) (hs : rl_R Q s) (hx : rl_R Q x) (hN : N ≤ 12) (hL : L ≤ 13) (A : Nat)
    (h : ∀ w' n', rl_R Q w' → post (nI A) (nI Q, lim, nI N, nI n', ro, cl, rk, nI L, rl_A s, rl_A w', po, ol, cp, ce, pr, rl_A x)) :
    ∀ d j w, j + d = N → L ≤ j → rl_R Q w → rg_H Q L N x s d j w = A → ∀ f, d < f →
      wX_holdsUntil_21 post f (nI j) (nI Q) lim (nI N) (nI j) ro cl rk (nI L) (rl_A s) (rl_A w) po ol cp ce pr (rl_A x) := by
  have q2 : 0 < Q := by have := rl_Q2 hQ; omega
  have q5 := rl_Q5 hQ
  intro d
  induction d with
  | zero =>
    intro j w hj hLj hw hA f hf
    obtain ⟨f, rfl⟩ := yw_fu hf
    have e : N = A := hA
    subst e
    exact br_t (nI_le (by omega) (by omega)) (h w j hw)
  | succ d ih =>
    intro j w hj hLj hw hA f hf
    obtain ⟨f, rfl⟩ := yw_fu hf
    have b1 : rl_S (yw_F x w j) L % Q < Q := Nat.mod_lt _ q2
    have b2 := hs j
    refine br_f (nI_ge (by omega) (by omega)) (xf_step hQ hw hx hL hLj (by omega) ⟨vp_in_nI (by omega) (by omega), vp_in_nI (by omega) (by omega), ?_⟩)
    rw [rg_Hs] at hA
    refine pk_eq (rl_S (yw_F x w j) L % Q) (s j) (fun e => nm_r (nI_1 j) (ih (j + 1) _ (by omega) (by omega) (rl_Ru hw b1) ?_ f (by omega))) (fun e => ?_) ?_ (rl_get j rfl (by omega)) (by omega) (by omega)
    · rw [if_pos e] at hA
      exact hA
    · rw [if_neg e] at hA
      subst hA
      exact h _ _ (rl_Ru hw b1)
    · rw [rl_get j rfl (by omega), rl_us]
theorem xa_back12 {Q N : Nat} {s p o c : Nat → Nat} {post : Int32 → SX → Prop} (hQ : rl_Q Q) (hs : rl_R Q s) (hp : rl_R Q p) (ho : rl_R Q o) (hc : rl_R Q c) (hN : N ≤ 12)
    (h : ∀ L w' p' o' c', rl_R Q w' → rl_R Q p' → rl_R Q o' → rl_R Q c' → L ≤ N → rg_LC Q (fun j => s (N - 1 - j)) N L → post (nI L) (nI Q, lim, sz, nI N, ro, cl, rk, rl, rl_A s, rl_A w', rl_A p', rl_A o', rl_A c', ce, pr, rg)) :
    ∀ d i w, i + d = N → rl_R Q w → (∀ j, j < i → w j = s (N - 1 - j)) → ∀ f, d < f →
      wX_complexityBackwards_12 post (nI Q) lim sz ro cl rk rl f (xf_dn d) (nI i) (rl_A s) (rl_A w) (rl_A p) (rl_A o) (rl_A c) ce pr rg := by
  have q5 := rl_Q5 hQ
  intro d
  induction d with
  | zero =>
    intro i w hi hw hh f hf
    obtain ⟨f, rfl⟩ := yw_fu hf
    obtain rfl : i = N := by omega
    refine br_t xf_neg (xs_short hQ hw hp ho hc (by omega) (fun L p' o' c' r1 r2 r3 hL hLC => ?_))
    exact h L w p' o' c' hw r1 r2 r3 hL (rg_LC_seq (fun j hj => (hh j hj).symm) hLC)
  | succ d ih =>
    intro i w hi hw hh f hf
    obtain ⟨f, rfl⟩ := yw_fu hf
    have b := hs d
    refine br_f (nI_pos (n := d) (by omega)) ⟨vp_in_nI (by omega) (by omega), vp_in_nI (by omega) (by omega), rl_sb i (s d) rfl (by omega) (rl_get d rfl (by omega)) (by omega) (nm_r (nI_1 i) (nm_r (xf_dn1 d) ?_))⟩
    refine ih (i + 1) (rl_u w i (s d)) (by omega) (rl_Ru hw b) (fun j hj => ?_) f (by omega)
    by_cases z : j = i
    · rw [z, rl_us, show N - 1 - i = d by omega]
    · rw [rl_un z]; exact hh j (by omega)
end XW5
end
section
/-! the relation -/
def re_ok (Q lim N : Nat) (s w p o c e x r d : Nat → Nat) : Prop :=
  rl_Q Q ∧ N ≤ lim ∧ lim ≤ 12 ∧ rl_R Q s ∧ rl_R Q w ∧ rl_R Q p ∧ rl_R Q o ∧ rl_R Q c ∧ rl_R Q e ∧ rl_R Q x ∧ rl_R Q r ∧ rl_R Q d
/-- the relation at the head of a turn: one modulus, limit, size and sequence; all scratch arrays hold symbols -/
def i_Rel (k : Nat) (u : SX) (v : SY) : Prop :=
  ∃ (Q L N : Nat) (ws ro cl rk rl : Int32) (s w p o c e x r d : Nat → Nat) (pr : Nat → Int32), re_ok Q L N s w p o c e x r d ∧
    u = (nI Q, nI L, nI N, ws, ro, cl, rk, rl, rl_A s, rl_A w, rl_A p, rl_A o, rl_A c, rl_A e, pr, rl_A x) ∧ v = (nI Q, nI L, nI N, rl_A s, rl_A r, rl_A d)
theorem re_in {k Q L N : Nat} {ws ro cl rk rl : Int32} {s w p o c e x r d : Nat → Nat} {pr : Nat → Int32} (h : re_ok Q L N s w p o c e x r d) :
    i_Rel k (nI Q, nI L, nI N, ws, ro, cl, rk, rl, rl_A s, rl_A w, rl_A p, rl_A o, rl_A c, rl_A e, pr, rl_A x) (nI Q, nI L, nI N, rl_A s, rl_A r, rl_A d) :=
  ⟨Q, L, N, ws, ro, cl, rk, rl, s, w, p, o, c, e, x, r, d, pr, h, rfl, rfl⟩
theorem re_el {k : Nat} {u : SX} {v : SY} {P : SX → SY → Prop} (h : ∀ (Q L N : Nat) (ws ro cl rk rl : Int32) (s w p o c e x r d : Nat → Nat) (pr : Nat → Int32), re_ok Q L N s w p o c e x r d →
    P (nI Q, nI L, nI N, ws, ro, cl, rk, rl, rl_A s, rl_A w, rl_A p, rl_A o, rl_A c, rl_A e, pr, rl_A x) (nI Q, nI L, nI N, rl_A s, rl_A r, rl_A d)) (I : i_Rel k u v) : P u v := by
  obtain ⟨Q, L, N, ws, ro, cl, rk, rl, s, w, p, o, c, e, x, r, d, pr, hok, hu, hv⟩ := I
  rw [hu, hv]
  exact h Q L N ws ro cl rk rl s w p o c e x r d pr hok
theorem re_uq {Q k L L' rk : Nat} {w r x c : Nat → Nat} (hw : ∀ j, j < k → w j = r j) (hF : rg_F Q w k L rk x) (hx : rl_R Q x) (hLC : rg_LC Q w k L) (ho : yw_O Q r k L' c) : L' = L ∧ ∀ t, 1 ≤ t → t ≤ L → c t = x t := by
  obtain ⟨h1, h2, h3, h4, h5⟩ := ho
  have e : L' = L := rg_LC_u h2 (rg_LC_seq (fun j hj => (hw j hj).symm) hLC)
  subst e
  refine ⟨rfl, fun t t1 t2 => ?_⟩
  rcases hF.2.2.1 c h3 (rg_seq hw h4) with z | z
  · exact z t t1 t2
  · exact absurd (h5 x hx (rg_seq (fun j hj => (hw j hj).symm) hF.2.1)) (by omega)
theorem i_up {k : Nat} {u : SX} {v : SY} (h : i_Rel k u v) : i_Rel (k + 3) u v := h
theorem re_0 {Q L : Nat} (hQ : rl_Q Q) (hL : L ≤ 12) : re_ok Q L 0 (fun _ => 0) (fun _ => 0) (fun _ => 0) (fun _ => 0) (fun _ => 0) (fun _ => 0) (fun _ => 0) (fun _ => 0) (fun _ => 0) :=
  ⟨hQ, Nat.zero_le _, hL, rl_R0 hQ, rl_R0 hQ, rl_R0 hQ, rl_R0 hQ, rl_R0 hQ, rl_R0 hQ, rl_R0 hQ, rl_R0 hQ, rl_R0 hQ⟩
theorem i_vc0 (k0 : Int32) : wpX_init (fun u => wpY_init (fun v => i_Rel 1 u v) k0) k0 := by
  by_cases a : 0 < k0
  · by_cases b : k0 = 1
    · exact br_t a (br_t b (br_t a (br_t b (br_t a (br_t b (re_in (re_0 (Q := 3) (L := 7) (Or.inr (Or.inl rfl)) (by decide))))))))
    · exact br_t a (br_f b (br_t a (br_f b (br_t a (br_f b (re_in (re_0 (Q := 5) (L := 5) (Or.inr (Or.inr rfl)) (by decide))))))))
  · exact br_f a (br_f a (br_f a (re_in (re_0 (Q := 2) (L := 12) (Or.inl rfl) (by decide)))))
theorem i_vc_modulus {k : Nat} {u : SX} {v : SY} (I : i_Rel k u v) (hk : k + 3 ≤ 1537) : wpX_modulus (fun r => wpY_modulus (fun r' => r' = r ∧ i_Rel (k + 3) u v) v) u := by
  refine re_el (P := fun u v => wpX_modulus (fun r => wpY_modulus (fun r' => r' = r ∧ i_Rel (k + 3) u v) v) u) ?_ I
  intro Q L N ws ro cl rk rl s w p o c e x r d pr ok
  exact ⟨rfl, re_in ok⟩
theorem i_vc_length {k : Nat} {u : SX} {v : SY} (I : i_Rel k u v) (hk : k + 3 ≤ 1537) : wpX_length (fun r => wpY_length (fun r' => r' = r ∧ i_Rel (k + 3) u v) v) u := by
  refine re_el (P := fun u v => wpX_length (fun r => wpY_length (fun r' => r' = r ∧ i_Rel (k + 3) u v) v) u) ?_ I
  intro Q L N ws ro cl rk rl s w p o c e x r d pr ok
  exact ⟨rfl, re_in ok⟩
theorem i_vc_clear {k : Nat} {u : SX} {v : SY} (I : i_Rel k u v) (hk : k + 3 ≤ 1537) : wpX_clear (fun u' => wpY_clear (fun v' => i_Rel (k + 3) u' v') v) u := by
  refine re_el (P := fun u v => wpX_clear (fun u' => wpY_clear (fun v' => i_Rel (k + 3) u' v') v) u) ?_ I
  intro Q L N ws ro cl rk rl s w p o c e x r d pr ok
  exact re_in (k := k + 3) (N := 0) ⟨ok.1, Nat.zero_le _, ok.2.2⟩
theorem i_vc_append {k : Nat} {u : SX} {v : SY} (I : i_Rel k u v) (hk : k + 3 ≤ 1537) (v1 : Int32) : wpX_append (fun r u' => wpY_append (fun r' v' => r' = r ∧ i_Rel (k + 3) u' v') v v1) u v1 := by
  refine re_el (P := fun u v => wpX_append (fun r u' => wpY_append (fun r' v' => r' = r ∧ i_Rel (k + 3) u' v') v v1) u v1) ?_ I
  intro Q L N ws ro cl rk rl s w p o c e x r d pr ok
  obtain ⟨hQ, hN, hL, hs, hr⟩ := ok
  have q5 := rl_Q5 hQ
  unfold wpX_append
  dsimp only
  refine xa_sym (fun z => br_t rfl ?_) (fun a b => br_f (by decide) ?_)
  · by_cases a : v1 < 0
    · exact br_t a ⟨rfl, re_in ⟨hQ, hN, hL, hs, hr⟩⟩
    · exact br_f a (br_t (z.resolve_left a) ⟨rfl, re_in ⟨hQ, hN, hL, hs, hr⟩⟩)
  · obtain ⟨j, hj, rfl⟩ := nI_of a
    have hjQ : j < Q := Nat.not_le.mp (fun q => b (nI_le q hj))
    refine pk_lt N L (fun y => ⟨vp_in_nI (by omega) (by omega), rl_sc N j rfl (by omega) rfl (by omega) (nm_r (nI_1 N) ?_)⟩) (fun y => ?_) rfl rfl (by omega) (by omega)
    · refine br_f a (br_f b (br_t (nI_lt y (by omega)) ⟨vp_in_nI (by omega) (by omega), rl_st N j rfl (by omega) rfl (nm_r (nI_1 N) ⟨rfl, re_in ⟨hQ, by omega, hL, rl_Ru hs hjQ, hr⟩⟩)⟩))
    · exact br_f a (br_f b (br_f (nI_nlt y (by omega)) ⟨rfl, re_in ⟨hQ, hN, hL, hs, hr⟩⟩))
theorem i_vc_drop {k : Nat} {u : SX} {v : SY} (I : i_Rel k u v) (hk : k + 3 ≤ 1537) : wpX_drop (fun r u' => wpY_drop (fun r' v' => r' = r ∧ i_Rel (k + 3) u' v') v) u := by
  refine re_el (P := fun u v => wpX_drop (fun r u' => wpY_drop (fun r' v' => r' = r ∧ i_Rel (k + 3) u' v') v) u) ?_ I
  intro Q L N ws ro cl rk rl s w p o c e x r d pr ok
  obtain ⟨hQ, hN, hL, hs, hr⟩ := ok
  cases N with
  | zero => exact br_t rfl (br_t rfl ⟨rfl, re_in ⟨hQ, hN, hL, hs, hr⟩⟩)
  | succ N =>
    have z : ¬ nI (N + 1) = 0 := nI_ne0 (by omega) (by omega)
    exact br_f z (nm_r (nI_pred N) ⟨vp_in_nI (by omega) (by omega), br_f z (nm_r (nI_pred N) ⟨vp_in_nI (by omega) (by omega), rfl, re_in ⟨hQ, by omega, hL, hs, hr⟩⟩)⟩)
theorem i_vc_change {k : Nat} {u : SX} {v : SY} (I : i_Rel k u v) (hk : k + 3 ≤ 1537) (v1 : Int32) (v2 : Int32) : wpX_change (fun r u' => wpY_change (fun r' v' => r' = r ∧ i_Rel (k + 3) u' v') v v1 v2) u v1 v2 := by
  refine re_el (P := fun u v => wpX_change (fun r u' => wpY_change (fun r' v' => r' = r ∧ i_Rel (k + 3) u' v') v v1 v2) u v1 v2) ?_ I
  intro Q L N ws ro cl rk rl s w p o c e x r d pr ok
  obtain ⟨hQ, hN, hL, hs, hr⟩ := ok
  have q5 := rl_Q5 hQ
  by_cases a : v1 < 0
  · exact br_t a (br_t a ⟨rfl, re_in ⟨hQ, hN, hL, hs, hr⟩⟩)
  · by_cases b : nI N ≤ v1
    · exact br_f a (br_t b (br_f a (br_t b ⟨rfl, re_in ⟨hQ, hN, hL, hs, hr⟩⟩)))
    · refine br_f a (br_f b (xa_sym (fun z => br_t rfl ?_) (fun y z => br_f (by decide) ?_)))
      · by_cases y : v2 < 0
        · exact br_f a (br_f b (br_t y ⟨rfl, re_in ⟨hQ, hN, hL, hs, hr⟩⟩))
        · exact br_f a (br_f b (br_f y (br_f (Int32.not_lt.mpr (z.resolve_left y)) ⟨rfl, re_in ⟨hQ, hN, hL, hs, hr⟩⟩)))
      · obtain ⟨i, hi, rfl⟩ := nI_of a
        obtain ⟨j, hj, rfl⟩ := nI_of y
        have hjQ : j < Q := Nat.not_le.mp (fun q => z (nI_le q hj))
        have hiN : i < N := Nat.not_le.mp (fun q => b (nI_le q hi))
        refine ⟨vp_in_nI (by omega) (by omega), rl_sc i j rfl (by omega) rfl (by omega) ?_⟩
        exact br_f a (br_f b (br_f y (br_t (nI_lt hjQ (by omega)) ⟨vp_in_nI (by omega) (by omega), rl_st i j rfl (by omega) rfl ⟨rfl, re_in ⟨hQ, hN, hL, rl_Ru hs hjQ, hr⟩⟩⟩)))
theorem i_vc_symbol {k : Nat} {u : SX} {v : SY} (I : i_Rel k u v) (hk : k + 3 ≤ 1537) (v1 : Int32) : wpX_symbol (fun r => wpY_symbol (fun r' => r' = r ∧ i_Rel (k + 3) u v) v v1) u v1 := by
  refine re_el (P := fun u v => wpX_symbol (fun r => wpY_symbol (fun r' => r' = r ∧ i_Rel (k + 3) u v) v v1) u v1) ?_ I
  intro Q L N ws ro cl rk rl s w p o c e x r d pr ok
  have hok := ok
  obtain ⟨hQ, hN, hL, hs, hr⟩ := ok
  by_cases a : v1 < 0
  · exact br_t a (br_t a ⟨rfl, re_in hok⟩)
  · by_cases b : v1 < nI N
    · obtain ⟨i, hi, rfl⟩ := nI_of a
      have hiN : i < N := (nI_ltI hi (by omega)).mp b
      exact br_f a (br_t b ⟨vp_in_nI (by omega) (by omega), br_f a (br_t b ⟨vp_in_nI (by omega) (by omega), rfl, re_in hok⟩)⟩)
    · exact br_f a (br_f b (br_f a (br_f b ⟨rfl, re_in hok⟩)))
end
section
/-! the answers about registers -/
theorem i_vc_complexity {k : Nat} {u : SX} {v : SY} (I : i_Rel k u v) (hk : k + 3 ≤ 1537) (v1 : Int32) (v2 : Int32) : wpX_complexity (fun r u' => wpY_complexity (fun r' v' => r' = r ∧ i_Rel (k + 3) u' v') v v1 v2) u v1 v2 := by
  refine re_el (P := fun u v => wpX_complexity (fun r u' => wpY_complexity (fun r' v' => r' = r ∧ i_Rel (k + 3) u' v') v v1 v2) u v1 v2) ?_ I
  intro Q Li N ws ro cl rk rl s w p o c e x r d pr ok
  have hok := ok
  obtain ⟨hQ, hN, hL, hs, hw, hp, ho, hc, he, hx, hr, hd⟩ := ok
  by_cases a : v1 < 0
  · exact br_t a (br_t a ⟨rfl, re_in hok⟩)
  · by_cases b : nI N < v2
    · refine br_f a (br_t b ?_)
      by_cases z : v2 < v1
      · exact br_f a (br_t z ⟨rfl, re_in hok⟩)
      · exact br_f a (br_f z (br_f (Int32.not_le.mpr b) ⟨rfl, re_in hok⟩))
    · by_cases z : v1 ≤ v2
      · obtain ⟨i, hi, rfl⟩ := nI_of a
        have y : ¬ v2 < 0 := by
          rw [Int32.lt_iff_toInt_lt] at a ⊢
          rw [Int32.le_iff_toInt_le] at z
          omega
        obtain ⟨j, hj, rfl⟩ := nI_of y
        have hij : i ≤ j := (nI_leI hi hj).mp z
        have hjN : j ≤ N := Nat.not_lt.mp (fun q => b (nI_lt q hj))
        refine br_f a (br_f b (br_t z (xw_take hQ hs hw hij (by omega) (fun w' w1 w2 => ?_))))
        refine xs_short hQ w1 hp ho hc (by omega) (fun L p' o' c' r1 r2 r3 l1 l2 => ?_)
        refine br_f a (br_f (nI_nlt hij (by omega)) (br_t (nI_le hjN (by omega)) (Exists.intro (j - i + 1) ?_)))
        refine ya_cpx21 hQ hs hd (by omega) hjN (fun L' r' c'' b1 b2 b3 b4 => ?_) (j - i) 0 r (by omega) hr (fun t ht => absurd ht (by omega)) (j - i + 1) (by omega)
        exact ⟨congrArg nI (rg_LC_u b4 (rg_LC_seq (fun t ht => (w2 t ht).symm) l2)), re_in ⟨hQ, hN, hL, hs, w1, r1, r2, r3, he, hx, b1, b2⟩⟩
      · have y : v2 < v1 := Int32.not_le.mp z
        exact br_f a (br_f b (br_f z (br_f a (br_t y ⟨rfl, re_in hok⟩))))
theorem i_vc_registers {k : Nat} {u : SX} {v : SY} (I : i_Rel k u v) (hk : k + 3 ≤ 1537) : wpX_registers (fun r u' => wpY_registers (fun r' v' => r' = r ∧ i_Rel (k + 3) u' v') v) u := by
  refine re_el (P := fun u v => wpX_registers (fun r u' => wpY_registers (fun r' v' => r' = r ∧ i_Rel (k + 3) u' v') v) u) ?_ I
  intro Q Li N ws ro cl rk rl s w p o c e x r d pr ok
  obtain ⟨hQ, hN, hL, hs, hw, hp, ho, hc, he, hx, hr, hd⟩ := ok
  unfold wpX_registers
  dsimp only
  refine xf_find hQ hs hw hp ho hc he hx (by omega) (fun L rr w' p' o' c' e' pr' x' g1 g2 g3 g4 g5 g6 g7 g8 g9 g10 => Exists.intro (L - rr + 1) ?_)
  have key := fun post h => xa_reg15 (Q := Q) (L := L) (r := rr) (post := post) (lim := nI Li) (sz := nI N) (ws := nI N) (ro := nI (N - L)) (rk := nI rr) (rl := nI L) (sy := rl_A s) (wk := rl_A w') (po := rl_A p') (ol := rl_A o') (cp := rl_A c') (ce := rl_A e') (pr := pr') (rg := rl_A x') (by omega) g10.1 h (L - rr) 0 (by omega) (L - rr + 1) (by omega)
  rw [Nat.pow_zero] at key
  refine key _ ?_
  unfold wpY_registers
  dsimp only
  refine yw_whole hs hr (by omega) (fun r' a1 a2 => yw_least (k := N) hQ a1 hd (by omega) rfl (fun L' c'' hO => yw_power (by have := hO.1; omega) (Exists.intro (Q ^ L' + 1) ?_)))
  have hu := re_uq (fun j hj => by rw [g7 j hj, a2 j hj]) g10 g6 g9 hO
  obtain ⟨rfl, hu2⟩ := hu
  refine ya_reg24 hQ a1 (by omega) g8 (fun c3 h3 => ⟨?_, re_in ⟨hQ, hN, hL, hs, g1, g2, g3, g4, g5, g6, a1, h3⟩⟩) (Q ^ L') 0 c'' (by omega) hO.2.2.1 (Q ^ L' + 1) (by omega)
  rw [← g10.2.2.2]
  refine congrArg nI (rl_Scongr _ (fun m _ => cn_iff ⟨fun z => rg_seq (fun j hj => ?_) z, fun z => rg_seq (fun j hj => ?_) z⟩))
  · rw [g7 j hj, a2 j hj]
  · rw [g7 j hj, a2 j hj]
theorem i_vc_coefficient {k : Nat} {u : SX} {v : SY} (I : i_Rel k u v) (hk : k + 3 ≤ 1537) (v1 : Int32) : wpX_coefficient (fun r u' => wpY_coefficient (fun r' v' => r' = r ∧ i_Rel (k + 3) u' v') v v1) u v1 := by
  refine re_el (P := fun u v => wpX_coefficient (fun r u' => wpY_coefficient (fun r' v' => r' = r ∧ i_Rel (k + 3) u' v') v v1) u v1) ?_ I
  intro Q Li N ws ro cl rk rl s w p o c e x r d pr ok
  obtain ⟨hQ, hN, hL, hs, hw, hp, ho, hc, he, hx, hr, hd⟩ := ok
  unfold wpX_coefficient
  dsimp only
  refine xf_find hQ hs hw hp ho hc he hx (by omega) (fun L rr w' p' o' c' e' pr' x' g1 g2 g3 g4 g5 g6 g7 g8 g9 g10 => ?_)
  have hY : ∀ post : Int32 → SY → Prop, (∀ r' c'', rl_R Q r' → rl_R Q c'' → (∀ t, 1 ≤ t → t ≤ L → c'' t = x' t) →
      ((v1 < 1 → post (-1) (nI Q, nI Li, nI N, rl_A s, rl_A r', rl_A c'')) ∧ (¬ v1 < 1 → ((v1 ≤ nI L → (vp_in v1 14 ∧ post (rl_A c'' v1.toNatClampNeg) (nI Q, nI Li, nI N, rl_A s, rl_A r', rl_A c''))) ∧ (¬ v1 ≤ nI L → post (-1) (nI Q, nI Li, nI N, rl_A s, rl_A r', rl_A c'')))))) →
      wpY_coefficient post (nI Q, nI Li, nI N, rl_A s, rl_A r, rl_A d) v1 := by
    intro post hpost
    unfold wpY_coefficient
    dsimp only
    refine yw_whole hs hr (by omega) (fun r' a1 a2 => yw_least (k := N) hQ a1 hd (by omega) rfl (fun L' c'' hO => ?_))
    obtain ⟨rfl, hu2⟩ := re_uq (fun j hj => by rw [g7 j hj, a2 j hj]) g10 g6 g9 hO
    exact hpost r' c'' a1 hO.2.2.1 hu2
  by_cases a : v1 < 1
  · exact br_t a (hY _ (fun r' c'' b1 b2 b3 => br_t a ⟨rfl, re_in ⟨hQ, hN, hL, hs, g1, g2, g3, g4, g5, g6, b1, b2⟩⟩))
  · by_cases b : v1 ≤ nI L
    · have y : ¬ v1 < 0 := by
        have h1 : (1 : Int32).toInt = 1 := by decide
        have h0 : (0 : Int32).toInt = 0 := by decide
        rw [Int32.lt_iff_toInt_lt] at a ⊢
        omega
      obtain ⟨i, hi, rfl⟩ := nI_of y
      have hiL : i ≤ L := (nI_leI hi (by omega)).mp b
      have hi1 : 1 ≤ i := Nat.not_lt.mp (fun q => a (nI_lt (b := 1) q (by omega)))
      refine br_f a (br_t b ⟨vp_in_nI (by omega) (by omega), hY _ (fun r' c'' b1 b2 b3 => br_f a (br_t b ⟨vp_in_nI (by omega) (by omega), ?_, re_in ⟨hQ, hN, hL, hs, g1, g2, g3, g4, g5, g6, b1, b2⟩⟩))⟩)
      show rl_A c'' (nI i).toNatClampNeg = rl_A x' (nI i).toNatClampNeg
      rw [rl_get i rfl hi, rl_get i rfl hi, b3 i hi1 hiL]
    · exact br_f a (br_f b (hY _ (fun r' c'' b1 b2 b3 => br_f a (br_f b ⟨rfl, re_in ⟨hQ, hN, hL, hs, g1, g2, g3, g4, g5, g6, b1, b2⟩⟩))))
theorem i_vc_predict {k : Nat} {u : SX} {v : SY} (I : i_Rel k u v) (hk : k + 3 ≤ 1537) (v1 : Int32) : wpX_predict (fun r u' => wpY_predict (fun r' v' => r' = r ∧ i_Rel (k + 3) u' v') v v1) u v1 := by
  refine re_el (P := fun u v => wpX_predict (fun r u' => wpY_predict (fun r' v' => r' = r ∧ i_Rel (k + 3) u' v') v v1) u v1) ?_ I
  intro Q Li N ws ro cl rk rl s w p o c e x r d pr ok
  have hok := ok
  obtain ⟨hQ, hN, hL, hs, hw, hp, ho, hc, he, hx, hr, hd⟩ := ok
  by_cases a : v1 < 0
  · exact br_t a (br_t a ⟨rfl, re_in hok⟩)
  · by_cases b : v1 ≤ 40
    · obtain ⟨m, hm, rfl⟩ := nI_of a
      have hm40 : m ≤ 40 := (nI_leI (b := 40) hm (by omega)).mp b
      refine br_f a (br_t b (xf_find hQ hs hw hp ho hc he hx (by omega) (fun L rr w' p' o' c' e' pr' x' g1 g2 g3 g4 g5 g6 g7 g8 g9 g10 => Exists.intro (m + 1 + 1) ?_)))
      refine xa_pred22 hQ g1 g6 (by omega) g8 hm40 (fun w2 w3 => ?_) (m + 1) 0 (by omega) (m + 1 + 1) (by omega)
      refine br_f a (br_t b (yw_whole hs hr (by omega) (fun r' a1 a2 => yw_least (k := N) hQ a1 hd (by omega) rfl (fun L' c'' hO => Exists.intro (m + 1 + 1) ?_))))
      obtain ⟨rfl, hu2⟩ := re_uq (fun j hj => by rw [g7 j hj, a2 j hj]) g10 g6 g9 hO
      refine ya_pred30 hQ a1 hO.2.2.1 (by omega) g8 hm40 (fun r2 r3 => ⟨?_, re_in ⟨hQ, hN, hL, hs, w3, g2, g3, g4, g5, g6, r3, hO.2.2.1⟩⟩) (m + 1) 0 (by omega) (m + 1 + 1) (by omega)
      exact congrArg nI (rg_Xc hu2 g8 (fun j hj => by rw [a2 j hj, g7 j hj]) (m + 1) (N + m) (by omega))
    · exact br_f a (br_f b (br_f a (br_f b ⟨rfl, re_in hok⟩)))
theorem i_vc_complexityWith {k : Nat} {u : SX} {v : SY} (I : i_Rel k u v) (hk : k + 3 ≤ 1537) (v1 : Int32) : wpX_complexityWith (fun r u' => wpY_complexityWith (fun r' v' => r' = r ∧ i_Rel (k + 3) u' v') v v1) u v1 := by
  refine re_el (P := fun u v => wpX_complexityWith (fun r u' => wpY_complexityWith (fun r' v' => r' = r ∧ i_Rel (k + 3) u' v') v v1) u v1) ?_ I
  intro Q Li N ws ro cl rk rl s w p o c e x r d pr ok
  have hok := ok
  obtain ⟨hQ, hN, hL, hs, hw, hp, ho, hc, he, hx, hr, hd⟩ := ok
  have q5 := rl_Q5 hQ
  unfold wpX_complexityWith
  dsimp only
  refine xa_sym (fun z => br_t rfl ?_) (fun a b => br_f (by decide) ?_)
  · by_cases a : v1 < 0
    · exact br_t a ⟨rfl, re_in hok⟩
    · exact br_f a (br_f (Int32.not_lt.mpr (z.resolve_left a)) ⟨rfl, re_in hok⟩)
  · obtain ⟨j, hj, rfl⟩ := nI_of a
    have hjQ : j < Q := Nat.not_le.mp (fun q => b (nI_le q hj))
    refine xw_take (a := 0) hQ hs hw (Nat.zero_le N) (by omega) (fun w' w1 w2 => ?_)
    rw [Nat.sub_zero] at w2 ⊢
    refine ⟨vp_in_nI (by omega) (by omega), rl_sc N j rfl (by omega) rfl (by omega) (nm_r (nI_1 N) ?_)⟩
    refine xs_short hQ (rl_Ru w1 hjQ) hp ho hc (by omega) (fun L p' o' c' r1 r2 r3 l1 l2 => ?_)
    refine br_f a (br_t (nI_lt hjQ (by omega)) (yw_whole hs hr (by omega) (fun r' a1 a2 => ⟨vp_in_nI (by omega) (by omega), rl_st N j rfl (by omega) rfl ?_⟩)))
    refine yw_least (k := N + 1) hQ (rl_Ru a1 hjQ) hd (by omega) (nI_1 N) (fun L' c'' hO => ⟨?_, re_in ⟨hQ, hN, hL, hs, rl_Ru w1 hjQ, r1, r2, r3, he, hx, rl_Ru a1 hjQ, hO.2.2.1⟩⟩)
    refine congrArg nI (rg_LC_u hO.2.1 (rg_LC_seq (fun t ht => ?_) l2))
    by_cases z : t = N
    · rw [z, rl_us, rl_us]
    · rw [rl_un z, rl_un z, a2 t (by omega), w2 t (by omega), Nat.zero_add]
theorem i_vc_complexityBackwards {k : Nat} {u : SX} {v : SY} (I : i_Rel k u v) (hk : k + 3 ≤ 1537) : wpX_complexityBackwards (fun r u' => wpY_complexityBackwards (fun r' v' => r' = r ∧ i_Rel (k + 3) u' v') v) u := by
  refine re_el (P := fun u v => wpX_complexityBackwards (fun r u' => wpY_complexityBackwards (fun r' v' => r' = r ∧ i_Rel (k + 3) u' v') v) u) ?_ I
  intro Q Li N ws ro cl rk rl s w p o c e x r d pr ok
  obtain ⟨hQ, hN, hL, hs, hw, hp, ho, hc, he, hx, hr, hd⟩ := ok
  refine nm_r (xf_dn2 N) (Exists.intro (N + 1) ?_)
  refine xa_back12 (N := N) hQ hs hp ho hc (by omega) (fun L w' p' o' c' g1 r1 r2 r3 l1 l2 => ?_) N 0 w (by omega) hw (fun t ht => absurd ht (by omega)) (N + 1) (by omega)
  refine Exists.intro (N + 1) (ya_back2 (N := N) hQ hs hd (by omega) (fun L' r' c'' b1 b2 b3 b4 => ?_) N 0 r (by omega) hr (fun t ht => absurd ht (by omega)) (N + 1) (by omega))
  exact ⟨congrArg nI (rg_LC_u b4 l2), re_in ⟨hQ, hN, hL, hs, g1, r1, r2, r3, he, hx, b1, b2⟩⟩
theorem i_vc_holdsUntil {k : Nat} {u : SX} {v : SY} (I : i_Rel k u v) (hk : k + 3 ≤ 1537) (v1 : Int32) : wpX_holdsUntil (fun r u' => wpY_holdsUntil (fun r' v' => r' = r ∧ i_Rel (k + 3) u' v') v v1) u v1 := by
  refine re_el (P := fun u v => wpX_holdsUntil (fun r u' => wpY_holdsUntil (fun r' v' => r' = r ∧ i_Rel (k + 3) u' v') v v1) u v1) ?_ I
  intro Q Li N ws ro cl rk rl s w p o c e x r d pr ok
  have hok := ok
  obtain ⟨hQ, hN, hL, hs, hw, hp, ho, hc, he, hx, hr, hd⟩ := ok
  by_cases a : v1 < 0
  · exact br_t a (br_t a ⟨rfl, re_in hok⟩)
  · by_cases b : v1 ≤ nI N
    · obtain ⟨m, hm, rfl⟩ := nI_of a
      have hmN : m ≤ N := (nI_leI hm (by omega)).mp b
      refine br_f a (br_t b (xf_find hQ hs hw hp ho hc he hx (by omega) (fun L rr w' p' o' c' e' pr' x' g1 g2 g3 g4 g5 g6 g7 g8 g9 g10 => Exists.intro (N - m + 1) ?_)))
      refine xa_hold21 hQ hs g6 (by omega) (by omega) (rg_H Q L N x' s (N - m) m w') (fun w2 n2 w3 => ?_) (N - m) m w' (by omega) g8 g1 rfl (N - m + 1) (by omega)
      refine br_f a (br_t b (yw_whole hs hr (by omega) (fun r' a1 a2 => yw_least (k := m) hQ a1 hd (by omega) rfl (fun L' c'' hO => Exists.intro (N - m + 1) ?_))))
      obtain ⟨rfl, hu2⟩ := re_uq (fun j hj => by rw [g7 j hj, a2 j (by omega)]) g10 g6 g9 hO
      refine ya_hold26 hQ hs hO.2.2.1 (by omega) (by omega) (rg_H Q L' N x' s (N - m) m w') (fun r2 r3 => ⟨rfl, re_in ⟨hQ, hN, hL, hs, w3, g2, g3, g4, g5, g6, r3, hO.2.2.1⟩⟩) (N - m) m r' (by omega) g8 a1 ?_ (N - m + 1) (by omega)
      exact rg_Hc hu2 (N - m) m r' w' g8 (fun j hj => by rw [a2 j (by omega), g7 j hj])
    · exact br_f a (br_f b (br_f a (br_f b ⟨rfl, re_in hok⟩)))
end
