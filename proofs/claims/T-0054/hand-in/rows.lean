section
/-! rows pasted from kit/rows/PURE-ROWS (starting text) -/
theorem pk_us {f : Nat → Int32} {k : Nat} {x : Int32} : upd f k x k = x := if_pos rfl
theorem pk_un {f : Nat → Int32} {k j : Nat} {x : Int32} (h : j ≠ k) : upd f k x j = f j := if_neg h
theorem pk_sub {a b : Nat} (h : b ≤ a) : nI a - nI b = nI (a - b) := by
  obtain ⟨c, rfl⟩ : ∃ c, a = c + b := ⟨a - b, by omega⟩
  rw [← nI_add, Int32.add_sub_cancel, Nat.add_sub_cancel]
theorem pk_m1 (n : Nat) : nI (n + 1) + (-1) = nI n := by
  rw [← nI_1, Int32.add_assoc, show (1 : Int32) + (-1) = 0 from rfl, Int32.add_zero]
theorem pk_mul (a b : Nat) : nI a * nI b = nI (a * b) := (Int32.ofNat_mul a b).symm
theorem pk_sub_toInt {a b : Nat} (ha : a < 2 ^ 30) (hb : b < 2 ^ 30) : (nI a - nI b).toInt = (a : Int) - b := by
  rw [Int32.toInt_sub, nI_toInt (by omega), nI_toInt (by omega)]
  exact Int.bmod_eq_of_le (by omega) (by omega)
theorem pk_sneg {a b : Nat} (hb : b < 2 ^ 30) (h : a < b) : nI a - nI b < 0 := by
  rw [Int32.lt_iff_toInt_lt, pk_sub_toInt (by omega) hb, show (0 : Int32).toInt = 0 from by decide]
  omega
theorem pk_le {x y : Int32} {A B : Prop} (a b : Nat) (f : a ≤ b → A) (g : b < a → B) (hx : x = nI a := by rfl) (hy : y = nI b := by rfl) (ha : a < 2 ^ 31 := by omega) (hb : b < 2 ^ 31 := by omega) : (x ≤ y → A) ∧ (¬ x ≤ y → B) := by
  subst hx hy
  rw [nI_leI ha hb]
  exact ⟨f, fun z => g (by omega)⟩
theorem pk_lt {x y : Int32} {A B : Prop} (a b : Nat) (f : a < b → A) (g : b ≤ a → B) (hx : x = nI a := by rfl) (hy : y = nI b := by rfl) (ha : a < 2 ^ 31 := by omega) (hb : b < 2 ^ 31 := by omega) : (x < y → A) ∧ (¬ x < y → B) := by
  subst hx hy
  rw [nI_ltI ha hb]
  exact ⟨f, fun z => g (by omega)⟩
theorem pk_eq {x y : Int32} {A B : Prop} (a b : Nat) (f : a = b → A) (g : a ≠ b → B) (hx : x = nI a := by rfl) (hy : y = nI b := by rfl) (ha : a < 2 ^ 31 := by omega) (hb : b < 2 ^ 31 := by omega) : (x = y → A) ∧ (¬ x = y → B) := by
  subst hx hy
  rw [nI_eq ha hb]
  exact ⟨f, g⟩
theorem pk_in {x : Int32} (n N : Nat) (h : n < N) (hx : x = nI n := by rfl) (hN : N < 2 ^ 31 := by omega) : vp_in x N := by
  subst hx
  exact vp_in_nI h hN
theorem pk_cl {x : Int32} (n : Nat) (hx : x = nI n := by rfl) (h : n < 2 ^ 31 := by omega) : x.toNatClampNeg = n := by
  subst hx
  exact nI_clamp h
theorem pk_tn {n : Nat} (h : n < 2 ^ 32) : (nI n).toBitVec.toNat = n := Nat.mod_eq_of_lt h
theorem pk_and (x : Int32) {m : Int32} (k : Nat) (hm : m.toBitVec.toNat = 2 ^ k - 1) : x &&& m = nI (x.toBitVec.toNat % 2 ^ k) := by
  apply Int32.toBitVec_inj.mp
  apply BitVec.eq_of_toNat_eq
  rw [Int32.toBitVec_and, BitVec.toNat_and, hm, Nat.and_two_pow_sub_one_eq_mod]
  show _ = (BitVec.ofNat 32 _).toNat
  rw [BitVec.toNat_ofNat]
  exact (Nat.mod_eq_of_lt (Nat.lt_of_le_of_lt (Nat.mod_le _ _) x.toBitVec.isLt)).symm
theorem pk_andN {n : Nat} (h : n < 2 ^ 32) {m : Int32} (k : Nat) (hm : m.toBitVec.toNat = 2 ^ k - 1) : nI n &&& m = nI (n % 2 ^ k) := by
  rw [pk_and _ k hm, pk_tn h]
theorem pk_shr (a s : Int32) (k : Nat) (hs : (s.toBitVec.smod 32).toNat = k) : (a >>> s).toInt = a.toInt >>> k := by
  show (a.toBitVec.sshiftRight (s.toBitVec.smod 32).toNat).toInt = _
  rw [hs, BitVec.toInt_sshiftRight]
  rfl
theorem pk_shrN {n : Nat} (h : n < 2 ^ 31) (s : Int32) (k : Nat) (hs : (s.toBitVec.smod 32).toNat = k) : nI n >>> s = nI (n / 2 ^ k) := by
  apply Int32.toInt_inj.mp
  have h2 : n / 2 ^ k ≤ n := Nat.div_le_self _ _
  rw [pk_shr _ _ k hs, nI_toInt h, nI_toInt (by omega), Int.shiftRight_eq_div_pow]
  rfl
end
section
/-! the plain law: limbs of a register as naturals below 256, their value, carries and borrows -/
/-- the value of the first n limbs -/
def zq_val (f : Nat → Nat) : Nat → Nat
  | 0 => 0
  | n + 1 => zq_val f n + f n * 256 ^ n
def zq_by (f : Nat → Nat) (n : Nat) : Prop := ∀ k, k < n → f k < 256
def zq_up (f : Nat → Nat) (j v : Nat) : Nat → Nat := fun k => if k = j then v else f k
theorem zq_up_s {f : Nat → Nat} {j v : Nat} : zq_up f j v j = v := if_pos rfl
theorem zq_up_n {f : Nat → Nat} {j v k : Nat} (h : k ≠ j) : zq_up f j v k = f k := if_neg h
theorem zq_by_up {f : Nat → Nat} {n j v : Nat} (h : zq_by f n) (hv : v < 256) : zq_by (zq_up f j v) n := by
  intro k hk
  by_cases e : k = j
  · rw [e, zq_up_s]; exact hv
  · rw [zq_up_n e]; exact h k hk
theorem zq_val_lt {f : Nat → Nat} : ∀ n, zq_by f n → zq_val f n < 256 ^ n := by
  intro n
  induction n with
  | zero => intro _; exact Nat.one_pos
  | succ n ih =>
    intro h
    have h1 := ih (fun k hk => h k (by omega))
    have h2 : f n * 256 ^ n ≤ 255 * 256 ^ n := Nat.mul_le_mul_right _ (by have := h n (by omega); omega)
    show zq_val f n + f n * 256 ^ n < 256 ^ (n + 1)
    rw [Nat.pow_succ]
    generalize 256 ^ n = P at h1 h2 ⊢
    omega
theorem zq_val_c {f g : Nat → Nat} : ∀ n, (∀ k, k < n → f k = g k) → zq_val f n = zq_val g n := by
  intro n
  induction n with
  | zero => intro _; rfl
  | succ n ih =>
    intro h
    show zq_val f n + f n * 256 ^ n = zq_val g n + g n * 256 ^ n
    rw [ih (fun k hk => h k (by omega)), h n (by omega)]
theorem zq_val_mono {f : Nat → Nat} {i n : Nat} (h : i ≤ n) : zq_val f i ≤ zq_val f n := by
  induction n with
  | zero => have : i = 0 := by omega
            rw [this]; exact Nat.le_refl _
  | succ n ih =>
    by_cases e : i = n + 1
    · rw [e]; exact Nat.le_refl _
    · exact Nat.le_trans (ih (by omega)) (Nat.le_add_right _ _)
theorem zq_lt_mul {a b P : Nat} (h : a < b) : a * P + P ≤ b * P := by
  have h2 : (a + 1) * P ≤ b * P := Nat.mul_le_mul_right P h
  rw [Nat.add_mul, Nat.one_mul] at h2
  exact h2
theorem zq_top {F G x y P : Nat} (hF : F < P) (hG : G < P) (e : F + x * P = G + y * P) : x = y := by
  rcases Nat.lt_trichotomy x y with h | h | h
  · have := zq_lt_mul (P := P) h; omega
  · exact h
  · have := zq_lt_mul (P := P) h; omega
theorem zq_val_inj {f g : Nat → Nat} : ∀ n, zq_by f n → zq_by g n → zq_val f n = zq_val g n → ∀ k, k < n → f k = g k := by
  intro n
  induction n with
  | zero => intro _ _ _ k hk; omega
  | succ n ih =>
    intro hf hg e k hk
    have hf' : zq_by f n := fun k hk => hf k (by omega)
    have hg' : zq_by g n := fun k hk => hg k (by omega)
    have e' : zq_val f n + f n * 256 ^ n = zq_val g n + g n * 256 ^ n := e
    have en : f n = g n := zq_top (zq_val_lt n hf') (zq_val_lt n hg') e'
    by_cases ek : k = n
    · rw [ek]; exact en
    · rw [en] at e'
      exact ih hf' hg' (by omega) k (by omega)
theorem zq_val_up {f : Nat → Nat} {j v : Nat} : ∀ n, j < n → zq_val (zq_up f j v) n + f j * 256 ^ j = zq_val f n + v * 256 ^ j := by
  intro n
  induction n with
  | zero => intro h; omega
  | succ n ih =>
    intro h
    show zq_val (zq_up f j v) n + zq_up f j v n * 256 ^ n + f j * 256 ^ j = zq_val f n + f n * 256 ^ n + v * 256 ^ j
    by_cases e : n = j
    · subst e
      rw [zq_up_s, zq_val_c (f := zq_up f n v) (g := f) n (fun k hk => zq_up_n (by omega))]
      omega
    · rw [zq_up_n e]
      have := ih (by omega)
      omega
/-- carries and the sum's limbs -/
def zq_cy (f g : Nat → Nat) : Nat → Nat
  | 0 => 0
  | k + 1 => (f k + g k + zq_cy f g k) / 256
def zq_ad (f g : Nat → Nat) (k : Nat) : Nat := (f k + g k + zq_cy f g k) % 256
theorem zq_ad_by {f g : Nat → Nat} (n : Nat) : zq_by (zq_ad f g) n := fun _ _ => Nat.mod_lt _ (by decide)
theorem zq_cy_le {f g : Nat → Nat} : ∀ n, zq_by f n → zq_by g n → zq_cy f g n ≤ 1 := by
  intro n
  induction n with
  | zero => intro _ _; exact Nat.zero_le _
  | succ n ih =>
    intro hf hg
    have h1 := ih (fun k hk => hf k (by omega)) (fun k hk => hg k (by omega))
    have h2 := hf n (by omega)
    have h3 := hg n (by omega)
    show (f n + g n + zq_cy f g n) / 256 ≤ 1
    omega
theorem zq_split (s P : Nat) : s % 256 * P + s / 256 * (P * 256) = s * P := by
  have h : (s % 256 + 256 * (s / 256)) * P = s * P := by rw [Nat.mod_add_div]
  rw [Nat.add_mul] at h
  rw [← h, Nat.mul_comm P 256, ← Nat.mul_assoc, Nat.mul_comm (s / 256) 256]
theorem zq_ad_val {f g : Nat → Nat} : ∀ n, zq_val (zq_ad f g) n + zq_cy f g n * 256 ^ n = zq_val f n + zq_val g n := by
  intro n
  induction n with
  | zero => rfl
  | succ n ih =>
    show zq_val (zq_ad f g) n + (f n + g n + zq_cy f g n) % 256 * 256 ^ n + (f n + g n + zq_cy f g n) / 256 * 256 ^ (n + 1) = zq_val f n + f n * 256 ^ n + (zq_val g n + g n * 256 ^ n)
    have h := zq_split (f n + g n + zq_cy f g n) (256 ^ n)
    rw [Nat.pow_succ]
    have h2 : (f n + g n + zq_cy f g n) * 256 ^ n = f n * 256 ^ n + g n * 256 ^ n + zq_cy f g n * 256 ^ n := by rw [Nat.add_mul, Nat.add_mul]
    rw [h2] at h
    omega
/-- borrows and the difference's limbs -/
def zq_bw (f g : Nat → Nat) : Nat → Nat
  | 0 => 0
  | k + 1 => if f k < g k + zq_bw f g k then 1 else 0
def zq_sb (f g : Nat → Nat) (k : Nat) : Nat := if f k < g k + zq_bw f g k then f k + 256 - (g k + zq_bw f g k) else f k - (g k + zq_bw f g k)
theorem zq_bw_t {f g : Nat → Nat} {k : Nat} (h : f k < g k + zq_bw f g k) : zq_bw f g (k + 1) = 1 := if_pos h
theorem zq_bw_f {f g : Nat → Nat} {k : Nat} (h : ¬ f k < g k + zq_bw f g k) : zq_bw f g (k + 1) = 0 := if_neg h
theorem zq_sb_t {f g : Nat → Nat} {k : Nat} (h : f k < g k + zq_bw f g k) : zq_sb f g k = f k + 256 - (g k + zq_bw f g k) := if_pos h
theorem zq_sb_f {f g : Nat → Nat} {k : Nat} (h : ¬ f k < g k + zq_bw f g k) : zq_sb f g k = f k - (g k + zq_bw f g k) := if_neg h
theorem zq_bw_le {f g : Nat → Nat} (n : Nat) : zq_bw f g n ≤ 1 := by
  cases n with
  | zero => exact Nat.zero_le _
  | succ n =>
    by_cases h : f n < g n + zq_bw f g n
    · rw [zq_bw_t h]; exact Nat.le_refl _
    · rw [zq_bw_f h]; exact Nat.zero_le _
theorem zq_sb_by {f g : Nat → Nat} {n : Nat} (hf : zq_by f n) : zq_by (zq_sb f g) n := by
  intro k hk
  have h1 := hf k hk
  by_cases h : f k < g k + zq_bw f g k
  · rw [zq_sb_t h]; omega
  · rw [zq_sb_f h]; omega
theorem zq_sb_val {f g : Nat → Nat} : ∀ n, zq_by f n → zq_by g n → zq_val (zq_sb f g) n + zq_val g n = zq_val f n + zq_bw f g n * 256 ^ n := by
  intro n
  induction n with
  | zero => intro _ _; rfl
  | succ n ih =>
    intro hf hg
    have h0 := ih (fun k hk => hf k (by omega)) (fun k hk => hg k (by omega))
    have h1 := hf n (by omega)
    have h2 := hg n (by omega)
    have h3 := zq_bw_le (f := f) (g := g) n
    show zq_val (zq_sb f g) n + zq_sb f g n * 256 ^ n + (zq_val g n + g n * 256 ^ n) = zq_val f n + f n * 256 ^ n + zq_bw f g (n + 1) * 256 ^ (n + 1)
    rw [Nat.pow_succ]
    by_cases h : f n < g n + zq_bw f g n
    · rw [zq_bw_t h, zq_sb_t h]
      have e : f n + 256 - (g n + zq_bw f g n) + g n + zq_bw f g n = f n + 256 := by omega
      have e2 := congrArg (· * 256 ^ n) e
      simp only [Nat.add_mul] at e2
      rw [Nat.one_mul]
      generalize (f n + 256 - (g n + zq_bw f g n)) * 256 ^ n = A at e2 ⊢
      generalize 256 ^ n = P at *
      omega
    · rw [zq_bw_f h, zq_sb_f h]
      have e : f n - (g n + zq_bw f g n) + g n + zq_bw f g n = f n := by omega
      have e2 := congrArg (· * 256 ^ n) e
      simp only [Nat.add_mul] at e2
      rw [Nat.zero_mul]
      generalize (f n - (g n + zq_bw f g n)) * 256 ^ n = A at e2 ⊢
      generalize 256 ^ n = P at *
      omega
/-- the comparison: the highest limb that differs -/
def zq_cm (f g : Nat → Nat) : Nat → Int32
  | 0 => 0
  | n + 1 => if f n < g n then -1 else if g n < f n then 1 else zq_cm f g n
theorem zq_cm_l {f g : Nat → Nat} {n : Nat} (h : f n < g n) : zq_cm f g (n + 1) = -1 := if_pos h
theorem zq_cm_g {f g : Nat → Nat} {n : Nat} (h : g n < f n) : zq_cm f g (n + 1) = 1 := (if_neg (by omega)).trans (if_pos h)
theorem zq_cm_e {f g : Nat → Nat} {n : Nat} (h : f n = g n) : zq_cm f g (n + 1) = zq_cm f g n := (if_neg (by omega)).trans (if_neg (by omega))
/-! an array with n cells from b on written by F -/
def zq_wr (a : Nat → Int32) (b n : Nat) (F : Nat → Nat) : Nat → Int32 := fun p => if b ≤ p ∧ p < b + n then nI (F (p - b)) else a p
theorem zq_wr_o {a : Nat → Int32} {b n p : Nat} {F : Nat → Nat} (h : ¬ (b ≤ p ∧ p < b + n)) : zq_wr a b n F p = a p := if_neg h
theorem zq_wr_i {a : Nat → Int32} {b n k : Nat} {F : Nat → Nat} (h : k < n) : zq_wr a b n F (b + k) = nI (F k) := by
  have e : zq_wr a b n F (b + k) = nI (F (b + k - b)) := if_pos ⟨by omega, by omega⟩
  rw [e, Nat.add_sub_cancel_left]
theorem zq_wr_p {a : Nat → Int32} {b n p : Nat} {F : Nat → Nat} (h : b ≤ p ∧ p < b + n) : zq_wr a b n F p = nI (F (p - b)) := if_pos h
theorem zq_wr_0 {a : Nat → Int32} {b : Nat} {F : Nat → Nat} : zq_wr a b 0 F = a := by
  funext p
  exact zq_wr_o (by omega)
theorem zq_wr_s {a : Nat → Int32} {b k : Nat} {F : Nat → Nat} : upd (zq_wr a b k F) (b + k) (nI (F k)) = zq_wr a b (k + 1) F := by
  funext p
  by_cases e : p = b + k
  · subst e
    rw [pk_us, zq_wr_i (by omega)]
  · rw [pk_un e]
    by_cases h : b ≤ p ∧ p < b + k
    · rw [zq_wr_p h, zq_wr_p (by omega)]
    · rw [zq_wr_o h, zq_wr_o (by omega)]
theorem zq_wr_u {a : Nat → Int32} {b n j v : Nat} {F : Nat → Nat} (hj : j < n) : upd (zq_wr a b n F) (b + j) (nI v) = zq_wr a b n (zq_up F j v) := by
  funext p
  by_cases e : p = b + j
  · subst e
    rw [pk_us, zq_wr_i hj, zq_up_s]
  · rw [pk_un e]
    by_cases h : b ≤ p ∧ p < b + n
    · rw [zq_wr_p h, zq_wr_p h, zq_up_n (by omega)]
    · rw [zq_wr_o h, zq_wr_o h]
theorem zq_wr_id {a : Nat → Int32} {b n : Nat} {F : Nat → Nat} (h : ∀ k, k < n → a (b + k) = nI (F k)) : zq_wr a b n F = a := by
  funext p
  by_cases e : b ≤ p ∧ p < b + n
  · rw [zq_wr_p e, ← h (p - b) (by omega)]
    exact congrArg a (by omega)
  · exact zq_wr_o e
theorem zq_wr_c {a : Nat → Int32} {b n : Nat} {F G : Nat → Nat} (h : ∀ k, k < n → F k = G k) : zq_wr a b n F = zq_wr a b n G := by
  funext p
  by_cases e : b ≤ p ∧ p < b + n
  · rw [zq_wr_p e, zq_wr_p e, h (p - b) (by omega)]
  · rw [zq_wr_o e, zq_wr_o e]
end
section
/-! indices, guards, and the component's walks -/
theorem zq_cl {b i : Nat} (h : b + i < 16) : (nI b + nI i).toNatClampNeg = b + i := by rw [nI_add]; exact nI_clamp (by omega)
theorem zq_in {b i : Nat} (h : b + i < 16) : vp_in (nI b + nI i) 16 := by rw [nI_add]; exact vp_in_nI h (by decide)
theorem zq_cl2 {r n i : Nat} (h : r * n + i < 16) : (nI r * nI n + nI i).toNatClampNeg = r * n + i := by rw [pk_mul]; exact zq_cl h
theorem zq_in2 {r n i : Nat} (h : r * n + i < 16) : vp_in (nI r * nI n + nI i) 16 := by rw [pk_mul]; exact zq_in h
theorem zq_in4 {i : Nat} (h : i < 4) : vp_in (nI i) 4 := vp_in_nI h (by decide)
theorem zq_cl4 {i : Nat} (h : i < 4) : (nI i).toNatClampNeg = i := nI_clamp (by omega)
theorem zq_m4 (r : Nat) : nI r * 4 = nI (r * 4) := pk_mul r 4
theorem zq_ix {x : Int32} {n : Nat} (hn : n < 2 ^ 31) (h0 : ¬ x < 0) (h : ¬ nI n ≤ x) : ∃ j : Nat, j < n ∧ x = nI j := by
  obtain ⟨j, hj, rfl⟩ := nI_of h0
  rw [nI_leI hn hj] at h
  exact ⟨j, by omega, rfl⟩
theorem zq_ix2 {x : Int32} {n : Nat} (hn : n < 2 ^ 31) (h0 : ¬ x < 0) (h : x < nI n) : ∃ j : Nat, j < n ∧ x = nI j := by
  obtain ⟨j, hj, rfl⟩ := nI_of h0
  rw [nI_ltI hj hn] at h
  exact ⟨j, h, rfl⟩
theorem zq_bd {r nr nl : Nat} (hr : r < nr) (h4 : nr ≤ 4) (h5 : nl ≤ 4) : r * nl + nl ≤ 16 := by
  have h : r * nl ≤ 3 * nl := Nat.mul_le_mul_right nl (by omega)
  omega
/-! load -/
theorem zq_Xload46 {post : Int32 → SX → Prop} {f_nr : Int32} {a0 : Nat → Int32} {b nl i d : Nat} (hb : b + nl ≤ 16) (hi : i < nl) (hp : post 0 (f_nr, nI nl, zq_wr a0 b nl (zq_up (fun _ => 0) i d))) : ∀ m k, k + m = nl → wX_load_46 post (nI i) (nI d) (nI b) f_nr (nI nl) (m + 1) (nI k) (zq_wr a0 b k (fun _ => 0)) := by
  intro m
  induction m with
  | zero =>
    intro k hk
    obtain rfl : k = nl := by omega
    have e : upd (zq_wr a0 b k (fun _ => 0)) (nI b + nI i).toNatClampNeg (nI d) = zq_wr a0 b k (zq_up (fun _ => 0) i d) := by
      rw [zq_cl (by omega), zq_wr_u hi]
    exact br_t (nI_le (Nat.le_refl _) (by omega)) ⟨zq_in (by omega), nm_r e hp⟩
  | succ m ih =>
    intro k hk
    have e : upd (zq_wr a0 b k (fun _ => 0)) (nI b + nI k).toNatClampNeg 0 = zq_wr a0 b (k + 1) (fun _ => 0) := by
      rw [zq_cl (by omega)]
      exact zq_wr_s (F := fun _ => 0)
    exact br_f (nI_ge (by omega) (by omega)) ⟨zq_in (by omega), nm_r e (nm_r (nI_1 k) (ih (k + 1) (by omega)))⟩
theorem zq_Xload {post : Int32 → SX → Prop} {a0 : Nat → Int32} {nr nl r i d : Nat} (h4 : nr ≤ 4) (h5 : nl ≤ 4) (hr : r < nr) (hi : i < nl) (hd : d < 256) (hp : post 0 (nI nr, nI nl, zq_wr a0 (r * 4) nl (zq_up (fun _ => 0) i d))) : wpX_load post (nI nr, nI nl, a0) (nI r) (nI i) (nI d) := by
  have L := zq_Xload46 (b := r * 4) (i := i) (d := d) (by omega) hi hp nl 0 (by omega)
  rw [zq_wr_0] at L
  have hd' : nI d ≤ 255 := nI_le (b := 255) (by omega) (by decide)
  exact br_f (nI_pos (by omega)) (br_f (nI_ge hr (by omega)) (br_f (nI_pos (by omega)) (br_f (nI_ge hi (by omega)) (br_f (nI_pos (by omega)) (br_t hd' (nm_r (zq_m4 r) ⟨nl + 1, L⟩))))))
/-! add -/
theorem zq_shr8 {n : Nat} (h : n < 2 ^ 31) : nI n >>> ((8 : Int32) &&& 31) = nI (n / 256) := pk_shrN h _ 8 (by decide)
theorem zq_and8 {n : Nat} (h : n < 2 ^ 31) : nI n &&& 255 = nI (n % 256) := pk_andN (by omega) 8 (by decide)
section
variable {f_nr : Int32} {a0 : Nat → Int32} {f g : Nat → Nat} {db sb nl : Nat}
theorem zq_Xadd103 {post : Int32 → SX → Prop} (hb : db + nl ≤ 16) (hs : sb + nl ≤ 16) (hd : ∀ k, k < nl → ¬ (db ≤ sb + k ∧ sb + k < db + k)) (hf : ∀ k, k < nl → a0 (db + k) = nI (f k)) (hg : ∀ k, k < nl → a0 (sb + k) = nI (g k)) (bf : zq_by f nl) (bg : zq_by g nl) (hp : post 0 (f_nr, nI nl, zq_wr a0 db nl (zq_ad f g))) : ∀ m k, k + m = nl → wX_add_103 post (nI db) (nI sb) f_nr (nI nl) (m + 1) (nI (zq_cy f g k)) (nI k) (zq_wr a0 db k (zq_ad f g)) := by
  intro m
  induction m with
  | zero =>
    intro k hk
    obtain rfl : k = nl := by omega
    exact br_t (nI_le (Nat.le_refl _) (by omega)) hp
  | succ m ih =>
    intro k hk
    have hk' : k < nl := by omega
    have c := zq_cy_le (f := f) (g := g) k (fun j hj => bf j (by omega)) (fun j hj => bg j (by omega))
    have h1 := bf k hk'
    have h2 := bg k hk'
    have e1 : zq_wr a0 db k (zq_ad f g) (nI db + nI k).toNatClampNeg + zq_wr a0 db k (zq_ad f g) (nI sb + nI k).toNatClampNeg + nI (zq_cy f g k) = nI (f k + g k + zq_cy f g k) := by
      rw [zq_cl (by omega), zq_cl (by omega), zq_wr_o (by omega), zq_wr_o (hd k hk'), hf k hk', hg k hk', nI_add, nI_add]
    have e2 : upd (zq_wr a0 db k (zq_ad f g)) (nI db + nI k).toNatClampNeg (nI (f k + g k + zq_cy f g k) &&& 255) = zq_wr a0 db (k + 1) (zq_ad f g) := by
      rw [zq_cl (by omega), zq_and8 (by omega)]
      exact zq_wr_s (F := zq_ad f g)
    have e3 : nI (f k + g k + zq_cy f g k) >>> ((8 : Int32) &&& 31) = nI (zq_cy f g (k + 1)) := zq_shr8 (by omega)
    exact br_f (nI_ge hk' (by omega)) ⟨zq_in (by omega), zq_in (by omega), nm_r e1 ⟨zq_in (by omega), nm_r e2 (nm_r e3 (nm_r (nI_1 k) (ih (k + 1) (by omega))))⟩⟩
theorem zq_Xadd42 {post : Int32 → SX → Prop} (hb : db + nl ≤ 16) (hs : sb + nl ≤ 16) (hf : ∀ k, k < nl → a0 (db + k) = nI (f k)) (hg : ∀ k, k < nl → a0 (sb + k) = nI (g k)) (bf : zq_by f nl) (bg : zq_by g nl) (h0 : zq_cy f g nl = 0 → ∃ n103 : Nat, wX_add_103 post (nI db) (nI sb) f_nr (nI nl) n103 0 0 a0) (h1 : zq_cy f g nl ≠ 0 → post (-8) (f_nr, nI nl, a0)) : ∀ m k, k + m = nl → wX_add_42 post (nI db) (nI sb) f_nr (nI nl) a0 (m + 1) (nI (zq_cy f g k)) (nI k) := by
  intro m
  induction m with
  | zero =>
    intro k hk
    obtain rfl : k = nl := by omega
    have c := zq_cy_le (f := f) (g := g) k bf bg
    exact br_t (nI_le (Nat.le_refl _) (by omega)) (pk_eq (zq_cy f g k) 0 h0 h1)
  | succ m ih =>
    intro k hk
    have hk' : k < nl := by omega
    have c := zq_cy_le (f := f) (g := g) k (fun j hj => bf j (by omega)) (fun j hj => bg j (by omega))
    have h1 := bf k hk'
    have h2 := bg k hk'
    have e1 : a0 (nI db + nI k).toNatClampNeg + a0 (nI sb + nI k).toNatClampNeg + nI (zq_cy f g k) = nI (f k + g k + zq_cy f g k) := by
      rw [zq_cl (by omega), zq_cl (by omega), hf k hk', hg k hk', nI_add, nI_add]
    have e3 : nI (f k + g k + zq_cy f g k) >>> ((8 : Int32) &&& 31) = nI (zq_cy f g (k + 1)) := zq_shr8 (by omega)
    exact br_f (nI_ge hk' (by omega)) ⟨zq_in (by omega), zq_in (by omega), nm_r e1 (nm_r e3 (nm_r (nI_1 k) (ih (k + 1) (by omega))))⟩
end
theorem zq_Xadd {post : Int32 → SX → Prop} {a0 : Nat → Int32} {f g : Nat → Nat} {nr nl dst src : Nat} (h4 : nr ≤ 4) (h5 : nl ≤ 4) (hr : dst < nr) (hs : src < nr) (hf : ∀ k, k < nl → a0 (dst * 4 + k) = nI (f k)) (hg : ∀ k, k < nl → a0 (src * 4 + k) = nI (g k)) (bf : zq_by f nl) (bg : zq_by g nl) (p0 : zq_cy f g nl = 0 → post 0 (nI nr, nI nl, zq_wr a0 (dst * 4) nl (zq_ad f g))) (p1 : zq_cy f g nl ≠ 0 → post (-8) (nI nr, nI nl, a0)) : wpX_add post (nI nr, nI nl, a0) (nI dst) (nI src) := by
  have h0 : zq_cy f g nl = 0 → ∃ n103 : Nat, wX_add_103 post (nI (dst * 4)) (nI (src * 4)) (nI nr) (nI nl) n103 0 0 a0 := by
    intro hc
    have L := zq_Xadd103 (db := dst * 4) (sb := src * 4) (by omega) (by omega) (fun k hk => by omega) hf hg bf bg (p0 hc) nl 0 (by omega)
    rw [zq_wr_0] at L
    exact ⟨nl + 1, L⟩
  have L := zq_Xadd42 (db := dst * 4) (sb := src * 4) (by omega) (by omega) hf hg bf bg h0 p1 nl 0 (by omega)
  exact br_f (nI_pos (by omega)) (br_f (nI_ge hr (by omega)) (br_f (nI_pos (by omega)) (br_t (nI_lt hs (by omega)) (nm_r (zq_m4 dst) (nm_r (zq_m4 src) ⟨nl + 1, L⟩)))))
/-! sub -/
theorem zq_dneg {x y z : Nat} (h : x < y + z) (hy : y + z < 1000) : ¬ (0 : Int32) ≤ nI x - nI y - nI z := by
  have e : nI x - nI y - nI z = nI x - nI (y + z) := by rw [← nI_add y z]; grind
  rw [e]
  have h2 := pk_sneg (a := x) (b := y + z) (by omega) h
  exact fun q => absurd h2 (Int32.not_lt.mpr q)
theorem zq_dpos {x y z : Nat} (h : ¬ x < y + z) : nI x - nI y - nI z = nI (x - (y + z)) := by
  have e : nI x - nI y - nI z = nI x - nI (y + z) := by rw [← nI_add y z]; grind
  rw [e, pk_sub (by omega)]
theorem zq_dadd {x y z : Nat} (h : y + z ≤ x + 256) : nI x - nI y - nI z + 256 = nI (x + 256 - (y + z)) := by
  have e : nI x - nI y - nI z + 256 = nI x + nI 256 - nI (y + z) := by
    rw [← nI_add y z, show nI 256 = 256 from by decide +kernel]
    grind
  rw [e, nI_add, pk_sub h]
section
variable {f_nr : Int32} {a0 : Nat → Int32} {f g : Nat → Nat} {db sb nl : Nat}
theorem zq_Xsub110 {post : Int32 → SX → Prop} (hb : db + nl ≤ 16) (hs : sb + nl ≤ 16) (hd : ∀ k, k < nl → ¬ (db ≤ sb + k ∧ sb + k < db + k)) (hf : ∀ k, k < nl → a0 (db + k) = nI (f k)) (hg : ∀ k, k < nl → a0 (sb + k) = nI (g k)) (bf : zq_by f nl) (bg : zq_by g nl) (hp : post 0 (f_nr, nI nl, zq_wr a0 db nl (zq_sb f g))) : ∀ m k, k + m = nl → wX_sub_110 post (nI db) (nI sb) f_nr (nI nl) (m + 1) (nI (zq_bw f g k)) (nI k) (zq_wr a0 db k (zq_sb f g)) := by
  intro m
  induction m with
  | zero =>
    intro k hk
    obtain rfl : k = nl := by omega
    exact br_t (nI_le (Nat.le_refl _) (by omega)) hp
  | succ m ih =>
    intro k hk
    have hk' : k < nl := by omega
    have c := zq_bw_le (f := f) (g := g) k
    have h1 := bf k hk'
    have h2 := bg k hk'
    have IH := ih (k + 1) (by omega)
    have e1 : zq_wr a0 db k (zq_sb f g) (nI db + nI k).toNatClampNeg - zq_wr a0 db k (zq_sb f g) (nI sb + nI k).toNatClampNeg - nI (zq_bw f g k) = nI (f k) - nI (g k) - nI (zq_bw f g k) := by
      rw [zq_cl (by omega), zq_cl (by omega), zq_wr_o (by omega), zq_wr_o (hd k hk'), hf k hk', hg k hk']
    have e2 : upd (zq_wr a0 db k (zq_sb f g)) (nI db + nI k).toNatClampNeg (nI (zq_sb f g k)) = zq_wr a0 db (k + 1) (zq_sb f g) := by
      rw [zq_cl (by omega)]
      exact zq_wr_s (F := zq_sb f g)
    refine br_f (nI_ge hk' (by omega)) ⟨zq_in (by omega), zq_in (by omega), nm_r e1 ?_⟩
    by_cases h : f k < g k + zq_bw f g k
    · rw [zq_bw_t h] at IH
      refine br_f (zq_dneg h (by omega)) (nm_r (e' := nI (zq_sb f g k)) (by rw [zq_sb_t h]; exact zq_dadd (by omega)) ?_)
      exact And.intro (zq_in (by omega)) (nm_r e2 (nm_r (nI_1 k) IH))
    · rw [zq_bw_f h] at IH
      rw [zq_dpos h, ← zq_sb_f h]
      refine br_t (nI_pos' (by have := zq_sb_by (g := g) bf k hk'; omega)) ?_
      exact And.intro (zq_in (by omega)) (nm_r e2 (nm_r (nI_1 k) IH))
theorem zq_Xsub42 {post : Int32 → SX → Prop} (hb : db + nl ≤ 16) (hs : sb + nl ≤ 16) (hf : ∀ k, k < nl → a0 (db + k) = nI (f k)) (hg : ∀ k, k < nl → a0 (sb + k) = nI (g k)) (bf : zq_by f nl) (bg : zq_by g nl) (h0 : zq_bw f g nl = 0 → ∃ n110 : Nat, wX_sub_110 post (nI db) (nI sb) f_nr (nI nl) n110 0 0 a0) (h1 : zq_bw f g nl ≠ 0 → post (-7) (f_nr, nI nl, a0)) : ∀ m k, k + m = nl → wX_sub_42 post (nI db) (nI sb) f_nr (nI nl) a0 (m + 1) (nI (zq_bw f g k)) (nI k) := by
  intro m
  induction m with
  | zero =>
    intro k hk
    obtain rfl : k = nl := by omega
    have c := zq_bw_le (f := f) (g := g) k
    exact br_t (nI_le (Nat.le_refl _) (by omega)) (pk_eq (zq_bw f g k) 0 h0 h1)
  | succ m ih =>
    intro k hk
    have hk' : k < nl := by omega
    have c := zq_bw_le (f := f) (g := g) k
    have h1 := bf k hk'
    have h2 := bg k hk'
    have IH := ih (k + 1) (by omega)
    have e1 : a0 (nI db + nI k).toNatClampNeg - a0 (nI sb + nI k).toNatClampNeg - nI (zq_bw f g k) = nI (f k) - nI (g k) - nI (zq_bw f g k) := by
      rw [zq_cl (by omega), zq_cl (by omega), hf k hk', hg k hk']
    refine br_f (nI_ge hk' (by omega)) ⟨zq_in (by omega), zq_in (by omega), nm_r e1 ?_⟩
    by_cases h : f k < g k + zq_bw f g k
    · rw [zq_bw_t h] at IH
      exact br_f (zq_dneg h (by omega)) (nm_r (nI_1 k) IH)
    · rw [zq_bw_f h] at IH
      rw [zq_dpos h]
      exact br_t (nI_pos' (by omega)) (nm_r (nI_1 k) IH)
end
theorem zq_Xsub {post : Int32 → SX → Prop} {a0 : Nat → Int32} {f g : Nat → Nat} {nr nl dst src : Nat} (h4 : nr ≤ 4) (h5 : nl ≤ 4) (hr : dst < nr) (hs : src < nr) (hf : ∀ k, k < nl → a0 (dst * 4 + k) = nI (f k)) (hg : ∀ k, k < nl → a0 (src * 4 + k) = nI (g k)) (bf : zq_by f nl) (bg : zq_by g nl) (p0 : zq_bw f g nl = 0 → post 0 (nI nr, nI nl, zq_wr a0 (dst * 4) nl (zq_sb f g))) (p1 : zq_bw f g nl ≠ 0 → post (-7) (nI nr, nI nl, a0)) : wpX_sub post (nI nr, nI nl, a0) (nI dst) (nI src) := by
  have h0 : zq_bw f g nl = 0 → ∃ n110 : Nat, wX_sub_110 post (nI (dst * 4)) (nI (src * 4)) (nI nr) (nI nl) n110 0 0 a0 := by
    intro hc
    have L := zq_Xsub110 (db := dst * 4) (sb := src * 4) (by omega) (by omega) (fun k hk => by omega) hf hg bf bg (p0 hc) nl 0 (by omega)
    rw [zq_wr_0] at L
    exact ⟨nl + 1, L⟩
  have L := zq_Xsub42 (db := dst * 4) (sb := src * 4) (by omega) (by omega) hf hg bf bg h0 p1 nl 0 (by omega)
  exact br_f (nI_pos (by omega)) (br_f (nI_ge hr (by omega)) (br_f (nI_pos (by omega)) (br_t (nI_lt hs (by omega)) (nm_r (zq_m4 dst) (nm_r (zq_m4 src) ⟨nl + 1, L⟩)))))
/-! cmp -/
theorem zq_Xcmp44 {post : Int32 → Prop} {f_nr : Int32} {a0 : Nat → Int32} {f g : Nat → Nat} {ab bb nl : Nat} (hb : ab + nl ≤ 16) (hs : bb + nl ≤ 16) (hf : ∀ k, k < nl → a0 (ab + k) = nI (f k)) (hg : ∀ k, k < nl → a0 (bb + k) = nI (g k)) (bf : zq_by f nl) (bg : zq_by g nl) : ∀ m, m ≤ nl → post (zq_cm f g m) → wX_cmp_44 post (nI ab) (nI bb) f_nr (nI nl) a0 (m + 1) (nI m - 1) := by
  intro m
  induction m with
  | zero =>
    intro _ hp
    exact br_t (by decide) hp
  | succ m ih =>
    intro hm hp
    have h1 := bf m (by omega)
    have h2 := bg m (by omega)
    have e1 : a0 (nI ab + nI m).toNatClampNeg = nI (f m) := by rw [zq_cl (by omega), hf m (by omega)]
    have e2 : a0 (nI bb + nI m).toNatClampNeg = nI (g m) := by rw [zq_cl (by omega), hg m (by omega)]
    have e3 : nI m + (-1) = nI m - 1 := by grind
    rw [nI_pred]
    refine br_f (nI_pos (by omega)) ⟨zq_in (by omega), nm_r e1 ⟨zq_in (by omega), nm_r e2 ?_⟩⟩
    refine pk_le (g m) (f m) (fun q => pk_le (f m) (g m) (fun q' => ?_) (fun q' => ?_)) (fun q => ?_)
    · rw [zq_cm_e (by omega)] at hp
      exact nm_r e3 (ih (by omega) hp)
    · rw [zq_cm_g q'] at hp
      exact hp
    · rw [zq_cm_l q] at hp
      exact hp
theorem zq_Xcmp {post : Int32 → Prop} {a0 : Nat → Int32} {f g : Nat → Nat} {nr nl dst src : Nat} (h4 : nr ≤ 4) (h5 : nl ≤ 4) (hr : dst < nr) (hs : src < nr) (hf : ∀ k, k < nl → a0 (dst * 4 + k) = nI (f k)) (hg : ∀ k, k < nl → a0 (src * 4 + k) = nI (g k)) (bf : zq_by f nl) (bg : zq_by g nl) (hp : post (zq_cm f g nl)) : wpX_cmp post (nI nr, nI nl, a0) (nI dst) (nI src) := by
  have L := zq_Xcmp44 (post := post) (f_nr := nI nr) (ab := dst * 4) (bb := src * 4) (by omega) (by omega) hf hg bf bg nl (Nat.le_refl _) hp
  exact br_f (nI_pos (by omega)) (br_f (nI_ge hr (by omega)) (br_f (nI_pos (by omega)) (br_t (nI_lt hs (by omega)) (nm_r (zq_m4 dst) (nm_r (zq_m4 src) (nm_e ⟨nl + 1, L⟩))))))
end
section
/-! the reference's walks -/
theorem zq_Yload41 {post : Int32 → SY → Prop} {f_nr : Int32} {a0 s w : Nat → Int32} {r nl i d : Nat} (hb : r * nl + nl ≤ 16) (hi : i < nl) (hp : post 0 (f_nr, nI nl, zq_wr a0 (r * nl) nl (zq_up (fun _ => 0) i d), s, w)) : ∀ m k, k + m = nl → wY_load_41 post (nI r) (nI i) (nI d) f_nr (nI nl) (m + 1) (nI k) (zq_wr a0 (r * nl) k (fun _ => 0)) s w := by
  intro m
  induction m with
  | zero =>
    intro k hk
    obtain rfl : k = nl := by omega
    have e : upd (zq_wr a0 (r * k) k (fun _ => 0)) (nI r * nI k + nI i).toNatClampNeg (nI d) = zq_wr a0 (r * k) k (zq_up (fun _ => 0) i d) := by
      rw [zq_cl2 (by omega), zq_wr_u hi]
    exact br_t (nI_le (Nat.le_refl _) (by omega)) ⟨zq_in2 (by omega), nm_r e hp⟩
  | succ m ih =>
    intro k hk
    have e : upd (zq_wr a0 (r * nl) k (fun _ => 0)) (nI r * nI nl + nI k).toNatClampNeg 0 = zq_wr a0 (r * nl) (k + 1) (fun _ => 0) := by
      rw [zq_cl2 (by omega)]
      exact zq_wr_s (F := fun _ => 0)
    exact br_f (nI_ge (by omega) (by omega)) ⟨zq_in2 (by omega), nm_r e (nm_r (nI_1 k) (ih (k + 1) (by omega)))⟩
theorem zq_Yload {post : Int32 → SY → Prop} {a0 s w : Nat → Int32} {nr nl r i d : Nat} (h4 : nr ≤ 4) (h5 : nl ≤ 4) (hr : r < nr) (hi : i < nl) (hd : d < 256) (hp : post 0 (nI nr, nI nl, zq_wr a0 (r * nl) nl (zq_up (fun _ => 0) i d), s, w)) : wpY_load post (nI nr, nI nl, a0, s, w) (nI r) (nI i) (nI d) := by
  have L := zq_Yload41 (r := r) (i := i) (d := d) (zq_bd hr h4 h5) hi hp nl 0 (by omega)
  rw [zq_wr_0] at L
  have hd' : nI d ≤ 255 := nI_le (b := 255) (by omega) (by decide)
  exact br_f (nI_pos (by omega)) (br_f (nI_ge hr (by omega)) (br_f (nI_pos (by omega)) (br_f (nI_ge hi (by omega)) (br_f (nI_pos (by omega)) (br_t hd' ⟨nl + 1, L⟩)))))
/-! cmp -/
theorem zq_Ycmp32 {post : Int32 → Prop} {f_nr : Int32} {a0 s w : Nat → Int32} {f g : Nat → Nat} {p q nl : Nat} (hb : p * nl + nl ≤ 16) (hs : q * nl + nl ≤ 16) (hf : ∀ k, k < nl → a0 (p * nl + k) = nI (f k)) (hg : ∀ k, k < nl → a0 (q * nl + k) = nI (g k)) (bf : zq_by f nl) (bg : zq_by g nl) (hp : post (zq_cm f g nl)) : ∀ m k, k + m = nl → wY_cmp_32 post (nI p) (nI q) f_nr (nI nl) a0 s w (m + 1) (zq_cm f g k) (nI k) := by
  intro m
  induction m with
  | zero =>
    intro k hk
    obtain rfl : k = nl := by omega
    exact br_t (nI_le (Nat.le_refl _) (by omega)) hp
  | succ m ih =>
    intro k hk
    have hk' : k < nl := by omega
    have h1 := bf k hk'
    have h2 := bg k hk'
    have e1 : a0 (nI p * nI nl + nI k).toNatClampNeg = nI (f k) := by rw [zq_cl2 (by omega), hf k hk']
    have e2 : a0 (nI q * nI nl + nI k).toNatClampNeg = nI (g k) := by rw [zq_cl2 (by omega), hg k hk']
    have i1 : vp_in (nI p * nI nl + nI k) 16 := zq_in2 (by omega)
    have i2 : vp_in (nI q * nI nl + nI k) 16 := zq_in2 (by omega)
    have IH := ih (k + 1) (by omega)
    refine br_f (nI_ge hk' (by omega)) ⟨i1, i2, ?_⟩
    refine pk_le (g k) (f k) (fun z => ?_) (fun z => ?_) e2 e1
    · refine And.intro i1 (And.intro i2 (pk_le (f k) (g k) (fun z' => ?_) (fun z' => ?_) e1 e2))
      · rw [zq_cm_e (by omega)] at IH
        exact nm_r (nI_1 k) IH
      · rw [zq_cm_g z'] at IH
        exact nm_r (nI_1 k) IH
    · refine And.intro i1 (And.intro i2 (pk_le (f k) (g k) (fun z' => ?_) (fun z' => ?_) e1 e2))
      · rw [zq_cm_l z] at IH
        exact nm_r (nI_1 k) IH
      · exact absurd z (by omega)
theorem zq_Ycmp {post : Int32 → Prop} {a0 s w : Nat → Int32} {f g : Nat → Nat} {nr nl dst src : Nat} (h4 : nr ≤ 4) (h5 : nl ≤ 4) (hr : dst < nr) (hs : src < nr) (hf : ∀ k, k < nl → a0 (dst * nl + k) = nI (f k)) (hg : ∀ k, k < nl → a0 (src * nl + k) = nI (g k)) (bf : zq_by f nl) (bg : zq_by g nl) (hp : post (zq_cm f g nl)) : wpY_cmp post (nI nr, nI nl, a0, s, w) (nI dst) (nI src) := by
  have L := zq_Ycmp32 (post := post) (f_nr := nI nr) (s := s) (w := w) (p := dst) (q := src) (zq_bd hr h4 h5) (zq_bd hs h4 h5) hf hg bf bg hp nl 0 (by omega)
  exact br_f (nI_pos (by omega)) (br_f (nI_ge hr (by omega)) (br_f (nI_pos (by omega)) (br_t (nI_lt hs (by omega)) ⟨nl + 1, L⟩)))
end
section
/-! add: the copy, the restoring, the counting -/
theorem zq_Yadd29 {post : Int32 → SY → Prop} {f_nr : Int32} {a0 : Nat → Int32} {f g : Nat → Nat} {dst src nl : Nat} (h5 : nl ≤ 4) (hb : dst * nl + nl ≤ 16) (hs : src * nl + nl ≤ 16) (hf : ∀ k, k < nl → a0 (dst * nl + k) = nI (f k)) (hg : ∀ k, k < nl → a0 (src * nl + k) = nI (g k)) (hc : ∀ s w : Nat → Int32, (∀ j, j < nl → s j = nI (g j)) → (∀ j, j < nl → w j = nI (f j)) → ∃ n83 : Nat, wY_add_83 post (nI dst) f_nr (nI nl) n83 0 a0 s w) : ∀ m k (s w : Nat → Int32), k + m = nl → (∀ j, j < k → s j = nI (g j)) → (∀ j, j < k → w j = nI (f j)) → wY_add_29 post (nI dst) (nI src) f_nr (nI nl) (m + 1) (nI k) a0 s w := by
  intro m
  induction m with
  | zero =>
    intro k s w hk ks kw
    obtain rfl : k = nl := by omega
    exact br_t (nI_le (Nat.le_refl _) (by omega)) (hc s w ks kw)
  | succ m ih =>
    intro k s w hk ks kw
    have hk' : k < nl := by omega
    have e1 : upd s (nI k).toNatClampNeg (a0 (nI src * nI nl + nI k).toNatClampNeg) = upd s k (nI (g k)) := by
      rw [zq_cl4 (by omega), zq_cl2 (by omega), hg k hk']
    have e2 : upd w (nI k).toNatClampNeg (a0 (nI dst * nI nl + nI k).toNatClampNeg) = upd w k (nI (f k)) := by
      rw [zq_cl4 (by omega), zq_cl2 (by omega), hf k hk']
    have ks' : ∀ j, j < k + 1 → upd s k (nI (g k)) j = nI (g j) := by
      intro j hj
      by_cases e : j = k
      · rw [e, pk_us]
      · rw [pk_un e]; exact ks j (by omega)
    have kw' : ∀ j, j < k + 1 → upd w k (nI (f k)) j = nI (f j) := by
      intro j hj
      by_cases e : j = k
      · rw [e, pk_us]
      · rw [pk_un e]; exact kw j (by omega)
    exact br_f (nI_ge hk' (by omega)) ⟨zq_in2 (by omega), zq_in4 (by omega), nm_r e1 ⟨zq_in2 (by omega), zq_in4 (by omega), nm_r e2 (nm_r (nI_1 k) (ih (k + 1) _ _ (by omega) ks' kw'))⟩⟩
section
variable {f_nr : Int32} {a0 s w : Nat → Int32} {f g : Nat → Nat} {dst nl : Nat}
theorem zq_Yadd169 {post : Int32 → SY → Prop} (h5 : nl ≤ 4) (hb : dst * nl + nl ≤ 16) (hf : ∀ k, k < nl → a0 (dst * nl + k) = nI (f k)) (hw : ∀ j, j < nl → w j = nI (f j)) (hp : post (-8) (f_nr, nI nl, a0, s, w)) : ∀ m k (h : Nat → Nat), k + m = nl → (∀ j, j < k → h j = f j) → wY_add_169 post (nI dst) f_nr (nI nl) (m + 1) (nI k) (zq_wr a0 (dst * nl) nl h) s w := by
  intro m
  induction m with
  | zero =>
    intro k h hk hh
    obtain rfl : k = nl := by omega
    have e : zq_wr a0 (dst * k) k h = a0 := (zq_wr_c hh).trans (zq_wr_id hf)
    rw [e]
    exact br_t (nI_le (Nat.le_refl _) (by omega)) hp
  | succ m ih =>
    intro k h hk hh
    have hk' : k < nl := by omega
    have e : upd (zq_wr a0 (dst * nl) nl h) (nI dst * nI nl + nI k).toNatClampNeg (w (nI k).toNatClampNeg) = zq_wr a0 (dst * nl) nl (zq_up h k (f k)) := by
      rw [zq_cl4 (by omega), zq_cl2 (by omega), hw k hk', zq_wr_u hk']
    have hh' : ∀ j, j < k + 1 → zq_up h k (f k) j = f j := by
      intro j hj
      by_cases e : j = k
      · rw [e, zq_up_s]
      · rw [zq_up_n e]; exact hh j (by omega)
    exact br_f (nI_ge hk' (by omega)) ⟨zq_in4 (by omega), zq_in2 (by omega), nm_r e (nm_r (nI_1 k) (ih (k + 1) _ (by omega) hh'))⟩
theorem zq_Yadd107 {post : Int32 → SY → Prop} {J83 J99 : Int32 → (Nat → Int32) → (Nat → Int32) → (Nat → Int32) → Prop} {x3 x4 : Int32} {V : Nat} (h5 : nl ≤ 4) (hb : dst * nl + nl ≤ 16) (hf : ∀ k, k < nl → a0 (dst * nl + k) = nI (f k)) (hw : ∀ j, j < nl → w j = nI (f j)) (hov : 256 ^ nl ≤ V → post (-8) (f_nr, nI nl, a0, s, w)) (hgo : ∀ c, zq_by c nl → zq_val c nl = V → J99 (x4 + (-1)) (zq_wr a0 (dst * nl) nl c) s w) : ∀ m j (c : Nat → Nat), j + m = nl → zq_by c nl → zq_val c nl + 256 ^ j = V → wY_add_107 post J83 J99 (nI dst) x3 x4 f_nr (nI nl) (m + 1) (nI j) (zq_wr a0 (dst * nl) nl c) s w := by
  intro m
  induction m with
  | zero =>
    intro j c hj bc hv
    obtain rfl : j = nl := by omega
    have L := zq_Yadd169 (post := post) (f_nr := f_nr) (s := s) h5 hb hf hw (hov (by omega)) j 0 c (by omega) (fun j hj => by omega)
    refine br_t (nI_le (Nat.le_refl _) (by omega)) ?_
    exact br_t rfl ⟨j + 1, L⟩
  | succ m ih =>
    intro j c hj bc hv
    have hj' : j < nl := by omega
    have hc := bc j hj'
    have er : zq_wr a0 (dst * nl) nl c (nI dst * nI nl + nI j).toNatClampNeg = nI (c j) := by rw [zq_cl2 (by omega), zq_wr_i hj']
    have ij : vp_in (nI dst * nI nl + nI j) 16 := zq_in2 (by omega)
    refine br_f (nI_ge hj' (by omega)) ⟨ij, pk_eq (c j) 255 (fun z => ?_) (fun z => ?_) er rfl⟩
    · have e : upd (zq_wr a0 (dst * nl) nl c) (nI dst * nI nl + nI j).toNatClampNeg 0 = zq_wr a0 (dst * nl) nl (zq_up c j 0) := by
        rw [zq_cl2 (by omega)]
        exact zq_wr_u (v := 0) hj'
      have hv2 := zq_val_up (f := c) (j := j) (v := 0) nl hj'
      rw [z, Nat.zero_mul] at hv2
      refine ⟨ij, nm_r e (nm_r (nI_1 j) (ih (j + 1) _ (by omega) (zq_by_up bc (by decide)) ?_))⟩
      rw [Nat.pow_succ]
      omega
    · have e : upd (zq_wr a0 (dst * nl) nl c) (nI dst * nI nl + nI j).toNatClampNeg (zq_wr a0 (dst * nl) nl c (nI dst * nI nl + nI j).toNatClampNeg + 1) = zq_wr a0 (dst * nl) nl (zq_up c j (c j + 1)) := by
        rw [er, zq_cl2 (by omega), nI_1, zq_wr_u hj']
      have hv2 := zq_val_up (f := c) (j := j) (v := c j + 1) nl hj'
      rw [Nat.add_mul, Nat.one_mul] at hv2
      have ne : ¬ nI j = nI nl := fun q => by rw [nI_eq (by omega) (by omega)] at q; omega
      refine br_f ne ⟨ij, ij, nm_r e (nm_e (hgo _ (zq_by_up bc (by omega)) ?_))⟩
      omega
theorem zq_Yadd99 {post : Int32 → SY → Prop} {J83 : Int32 → (Nat → Int32) → (Nat → Int32) → (Nat → Int32) → Prop} {i W : Nat} (hi : i < nl) (h5 : nl ≤ 4) (hb : dst * nl + nl ≤ 16) (hf : ∀ k, k < nl → a0 (dst * nl + k) = nI (f k)) (hw : ∀ j, j < nl → w j = nI (f j)) (hov : 256 ^ nl ≤ W → post (-8) (f_nr, nI nl, a0, s, w)) (hgo : ∀ c, zq_by c nl → zq_val c nl = W → J83 (nI (i + 1)) (zq_wr a0 (dst * nl) nl c) s w) : ∀ t (c : Nat → Nat), t < 2 ^ 31 → zq_by c nl → zq_val c nl + t * 256 ^ i = W → wY_add_99 post J83 (nI dst) (nI i) f_nr (nI nl) (t + 1) (nI t) (zq_wr a0 (dst * nl) nl c) s w := by
  intro t
  induction t with
  | zero =>
    intro c ht bc hv
    rw [Nat.zero_mul] at hv
    exact br_t (by decide) (nm_r (nI_1 i) (hgo c bc hv))
  | succ t ih =>
    intro c ht bc hv
    rw [Nat.add_mul, Nat.one_mul] at hv
    refine br_f (nI_nle (by omega) ht) ⟨nl - i + 1, ?_⟩
    refine zq_Yadd107 (V := zq_val c nl + 256 ^ i) h5 hb hf hw (fun q => hov (by omega)) (fun c' bc' hc' => ?_) (nl - i) i c (by omega) bc rfl
    rw [pk_m1]
    exact ih c' (by omega) bc' (by omega)
theorem zq_Yadd83 {post : Int32 → SY → Prop} (h5 : nl ≤ 4) (hb : dst * nl + nl ≤ 16) (hf : ∀ k, k < nl → a0 (dst * nl + k) = nI (f k)) (hs : ∀ j, j < nl → s j = nI (g j)) (hw : ∀ j, j < nl → w j = nI (f j)) (bg : zq_by g nl) (hov : 256 ^ nl ≤ zq_val f nl + zq_val g nl → post (-8) (f_nr, nI nl, a0, s, w)) (hgo : ∀ c, zq_by c nl → zq_val c nl = zq_val f nl + zq_val g nl → post 0 (f_nr, nI nl, zq_wr a0 (dst * nl) nl c, s, w)) : ∀ m i (c : Nat → Nat), i + m = nl → zq_by c nl → zq_val c nl = zq_val f nl + zq_val g i → wY_add_83 post (nI dst) f_nr (nI nl) (m + 1) (nI i) (zq_wr a0 (dst * nl) nl c) s w := by
  intro m
  induction m with
  | zero =>
    intro i c hi bc hv
    obtain rfl : i = nl := by omega
    exact br_t (nI_le (Nat.le_refl _) (by omega)) (hgo c bc hv)
  | succ m ih =>
    intro i c hi bc hv
    have hi' : i < nl := by omega
    have hgi := bg i hi'
    have e : s (nI i).toNatClampNeg = nI (g i) := by rw [zq_cl4 (by omega), hs i hi']
    have mo : zq_val g (i + 1) ≤ zq_val g nl := zq_val_mono hi'
    have st : zq_val g (i + 1) = zq_val g i + g i * 256 ^ i := rfl
    refine br_f (nI_ge hi' (by omega)) ⟨zq_in4 (by omega), nm_r e ⟨g i + 1, ?_⟩⟩
    exact zq_Yadd99 (W := zq_val f nl + zq_val g (i + 1)) hi' h5 hb hf hw (fun q => hov (by omega)) (fun c' bc' hc' => ih (i + 1) c' (by omega) bc' hc') (g i) c (by omega) bc (by omega)
end
theorem zq_Yadd {post : Int32 → SY → Prop} {a0 s0 w0 : Nat → Int32} {f g : Nat → Nat} {nr nl dst src : Nat} (h4 : nr ≤ 4) (h5 : nl ≤ 4) (hr : dst < nr) (hs : src < nr) (hf : ∀ k, k < nl → a0 (dst * nl + k) = nI (f k)) (hg : ∀ k, k < nl → a0 (src * nl + k) = nI (g k)) (bf : zq_by f nl) (bg : zq_by g nl) (hov : 256 ^ nl ≤ zq_val f nl + zq_val g nl → ∀ s w, post (-8) (nI nr, nI nl, a0, s, w)) (hgo : ∀ c s w, zq_by c nl → zq_val c nl = zq_val f nl + zq_val g nl → post 0 (nI nr, nI nl, zq_wr a0 (dst * nl) nl c, s, w)) : wpY_add post (nI nr, nI nl, a0, s0, w0) (nI dst) (nI src) := by
  have C : ∀ s w : Nat → Int32, (∀ j, j < nl → s j = nI (g j)) → (∀ j, j < nl → w j = nI (f j)) → ∃ n83 : Nat, wY_add_83 post (nI dst) (nI nr) (nI nl) n83 0 a0 s w := by
    intro s w ks kw
    have L := zq_Yadd83 (post := post) (f_nr := nI nr) h5 (zq_bd hr h4 h5) hf ks kw bg (fun q => hov q s w) (fun c bc hc => hgo c s w bc hc) nl 0 f (by omega) bf rfl
    rw [zq_wr_id hf] at L
    exact ⟨nl + 1, L⟩
  have L := zq_Yadd29 h5 (zq_bd hr h4 h5) (zq_bd hs h4 h5) hf hg C nl 0 s0 w0 (by omega) (fun j hj => by omega) (fun j hj => by omega)
  exact br_f (nI_pos (by omega)) (br_f (nI_ge hr (by omega)) (br_f (nI_pos (by omega)) (br_t (nI_lt hs (by omega)) ⟨nl + 1, L⟩)))
end
section
/-! sub: the copy, the restoring, the counting -/
theorem zq_Ysub29 {post : Int32 → SY → Prop} {f_nr : Int32} {a0 : Nat → Int32} {f g : Nat → Nat} {dst src nl : Nat} (h5 : nl ≤ 4) (hb : dst * nl + nl ≤ 16) (hs : src * nl + nl ≤ 16) (hf : ∀ k, k < nl → a0 (dst * nl + k) = nI (f k)) (hg : ∀ k, k < nl → a0 (src * nl + k) = nI (g k)) (hc : ∀ s w : Nat → Int32, (∀ j, j < nl → s j = nI (g j)) → (∀ j, j < nl → w j = nI (f j)) → ∃ n83 : Nat, wY_sub_83 post (nI dst) f_nr (nI nl) n83 0 a0 s w) : ∀ m k (s w : Nat → Int32), k + m = nl → (∀ j, j < k → s j = nI (g j)) → (∀ j, j < k → w j = nI (f j)) → wY_sub_29 post (nI dst) (nI src) f_nr (nI nl) (m + 1) (nI k) a0 s w := by
  intro m
  induction m with
  | zero =>
    intro k s w hk ks kw
    obtain rfl : k = nl := by omega
    exact br_t (nI_le (Nat.le_refl _) (by omega)) (hc s w ks kw)
  | succ m ih =>
    intro k s w hk ks kw
    have hk' : k < nl := by omega
    have e1 : upd s (nI k).toNatClampNeg (a0 (nI src * nI nl + nI k).toNatClampNeg) = upd s k (nI (g k)) := by
      rw [zq_cl4 (by omega), zq_cl2 (by omega), hg k hk']
    have e2 : upd w (nI k).toNatClampNeg (a0 (nI dst * nI nl + nI k).toNatClampNeg) = upd w k (nI (f k)) := by
      rw [zq_cl4 (by omega), zq_cl2 (by omega), hf k hk']
    have ks' : ∀ j, j < k + 1 → upd s k (nI (g k)) j = nI (g j) := by
      intro j hj
      by_cases e : j = k
      · rw [e, pk_us]
      · rw [pk_un e]; exact ks j (by omega)
    have kw' : ∀ j, j < k + 1 → upd w k (nI (f k)) j = nI (f j) := by
      intro j hj
      by_cases e : j = k
      · rw [e, pk_us]
      · rw [pk_un e]; exact kw j (by omega)
    exact br_f (nI_ge hk' (by omega)) ⟨zq_in2 (by omega), zq_in4 (by omega), nm_r e1 ⟨zq_in2 (by omega), zq_in4 (by omega), nm_r e2 (nm_r (nI_1 k) (ih (k + 1) _ _ (by omega) ks' kw'))⟩⟩
section
variable {f_nr : Int32} {a0 s w : Nat → Int32} {f g : Nat → Nat} {dst nl : Nat}
theorem zq_Ysub168 {post : Int32 → SY → Prop} (h5 : nl ≤ 4) (hb : dst * nl + nl ≤ 16) (hf : ∀ k, k < nl → a0 (dst * nl + k) = nI (f k)) (hw : ∀ j, j < nl → w j = nI (f j)) (hp : post (-7) (f_nr, nI nl, a0, s, w)) : ∀ m k (h : Nat → Nat), k + m = nl → (∀ j, j < k → h j = f j) → wY_sub_168 post (nI dst) f_nr (nI nl) (m + 1) (nI k) (zq_wr a0 (dst * nl) nl h) s w := by
  intro m
  induction m with
  | zero =>
    intro k h hk hh
    obtain rfl : k = nl := by omega
    have e : zq_wr a0 (dst * k) k h = a0 := (zq_wr_c hh).trans (zq_wr_id hf)
    rw [e]
    exact br_t (nI_le (Nat.le_refl _) (by omega)) hp
  | succ m ih =>
    intro k h hk hh
    have hk' : k < nl := by omega
    have e : upd (zq_wr a0 (dst * nl) nl h) (nI dst * nI nl + nI k).toNatClampNeg (w (nI k).toNatClampNeg) = zq_wr a0 (dst * nl) nl (zq_up h k (f k)) := by
      rw [zq_cl4 (by omega), zq_cl2 (by omega), hw k hk', zq_wr_u hk']
    have hh' : ∀ j, j < k + 1 → zq_up h k (f k) j = f j := by
      intro j hj
      by_cases e : j = k
      · rw [e, zq_up_s]
      · rw [zq_up_n e]; exact hh j (by omega)
    exact br_f (nI_ge hk' (by omega)) ⟨zq_in4 (by omega), zq_in2 (by omega), nm_r e (nm_r (nI_1 k) (ih (k + 1) _ (by omega) hh'))⟩
theorem zq_Ysub107 {post : Int32 → SY → Prop} {J83 J99 : Int32 → (Nat → Int32) → (Nat → Int32) → (Nat → Int32) → Prop} {x3 x4 : Int32} {V D : Nat} (h5 : nl ≤ 4) (hb : dst * nl + nl ≤ 16) (hf : ∀ k, k < nl → a0 (dst * nl + k) = nI (f k)) (hw : ∀ j, j < nl → w j = nI (f j)) (hov : V < D → post (-7) (f_nr, nI nl, a0, s, w)) (hgo : ∀ c, zq_by c nl → zq_val c nl + D = V → J99 (x4 + (-1)) (zq_wr a0 (dst * nl) nl c) s w) : ∀ m j (c : Nat → Nat), j + m = nl → zq_by c nl → zq_val c nl + D = V + 256 ^ j → wY_sub_107 post J83 J99 (nI dst) x3 x4 f_nr (nI nl) (m + 1) (nI j) (zq_wr a0 (dst * nl) nl c) s w := by
  intro m
  induction m with
  | zero =>
    intro j c hj bc hv
    obtain rfl : j = nl := by omega
    have lt := zq_val_lt j bc
    have L := zq_Ysub168 (post := post) (f_nr := f_nr) (s := s) h5 hb hf hw (hov (by omega)) j 0 c (by omega) (fun j hj => by omega)
    refine br_t (nI_le (Nat.le_refl _) (by omega)) ?_
    exact br_t rfl ⟨j + 1, L⟩
  | succ m ih =>
    intro j c hj bc hv
    have hj' : j < nl := by omega
    have hc := bc j hj'
    have er : zq_wr a0 (dst * nl) nl c (nI dst * nI nl + nI j).toNatClampNeg = nI (c j) := by rw [zq_cl2 (by omega), zq_wr_i hj']
    have ij : vp_in (nI dst * nI nl + nI j) 16 := zq_in2 (by omega)
    refine br_f (nI_ge hj' (by omega)) ⟨ij, pk_eq (c j) 0 (fun z => ?_) (fun z => ?_) er rfl⟩
    · have e : upd (zq_wr a0 (dst * nl) nl c) (nI dst * nI nl + nI j).toNatClampNeg 255 = zq_wr a0 (dst * nl) nl (zq_up c j 255) := by
        rw [zq_cl2 (by omega)]
        exact zq_wr_u (v := 255) hj'
      have hv2 := zq_val_up (f := c) (j := j) (v := 255) nl hj'
      rw [z, Nat.zero_mul] at hv2
      refine ⟨ij, nm_r e (nm_r (nI_1 j) (ih (j + 1) _ (by omega) (zq_by_up bc (by decide)) ?_))⟩
      rw [Nat.pow_succ]
      omega
    · have e : upd (zq_wr a0 (dst * nl) nl c) (nI dst * nI nl + nI j).toNatClampNeg (zq_wr a0 (dst * nl) nl c (nI dst * nI nl + nI j).toNatClampNeg - 1) = zq_wr a0 (dst * nl) nl (zq_up c j (c j - 1)) := by
        rw [er, zq_cl2 (by omega), show nI (c j) - 1 = nI (c j - 1) from pk_sub (b := 1) (by omega), zq_wr_u hj']
      have hv2 := zq_val_up (f := c) (j := j) (v := c j - 1) nl hj'
      have hv3 : c j * 256 ^ j = (c j - 1) * 256 ^ j + 256 ^ j := by
        obtain ⟨q, hq⟩ : ∃ q, c j = q + 1 := ⟨c j - 1, by omega⟩
        rw [hq, Nat.add_mul, Nat.one_mul, Nat.add_sub_cancel]
      have ne : ¬ nI j = nI nl := fun q => by rw [nI_eq (by omega) (by omega)] at q; omega
      refine br_f ne ⟨ij, ij, nm_r e (nm_e (hgo _ (zq_by_up bc (by omega)) ?_))⟩
      omega
theorem zq_Ysub99 {post : Int32 → SY → Prop} {J83 : Int32 → (Nat → Int32) → (Nat → Int32) → (Nat → Int32) → Prop} {i A W : Nat} (hi : i < nl) (h5 : nl ≤ 4) (hb : dst * nl + nl ≤ 16) (hf : ∀ k, k < nl → a0 (dst * nl + k) = nI (f k)) (hw : ∀ j, j < nl → w j = nI (f j)) (hov : A < W → post (-7) (f_nr, nI nl, a0, s, w)) (hgo : ∀ c, zq_by c nl → zq_val c nl + W = A → J83 (nI (i + 1)) (zq_wr a0 (dst * nl) nl c) s w) : ∀ t R (c : Nat → Nat), t < 2 ^ 31 → zq_by c nl → zq_val c nl + R = A → R + t * 256 ^ i = W → wY_sub_99 post J83 (nI dst) (nI i) f_nr (nI nl) (t + 1) (nI t) (zq_wr a0 (dst * nl) nl c) s w := by
  intro t
  induction t with
  | zero =>
    intro R c ht bc hv hR
    rw [Nat.zero_mul] at hR
    exact br_t (by decide) (nm_r (nI_1 i) (hgo c bc (by omega)))
  | succ t ih =>
    intro R c ht bc hv hR
    rw [Nat.add_mul, Nat.one_mul] at hR
    refine br_f (nI_nle (by omega) ht) ⟨nl - i + 1, ?_⟩
    refine zq_Ysub107 (V := zq_val c nl) (D := 256 ^ i) h5 hb hf hw (fun q => hov (by omega)) (fun c' bc' hc' => ?_) (nl - i) i c (by omega) bc rfl
    rw [pk_m1]
    exact ih (R + 256 ^ i) c' (by omega) bc' (by omega) (by omega)
theorem zq_Ysub83 {post : Int32 → SY → Prop} (h5 : nl ≤ 4) (hb : dst * nl + nl ≤ 16) (hf : ∀ k, k < nl → a0 (dst * nl + k) = nI (f k)) (hs : ∀ j, j < nl → s j = nI (g j)) (hw : ∀ j, j < nl → w j = nI (f j)) (bg : zq_by g nl) (hov : zq_val f nl < zq_val g nl → post (-7) (f_nr, nI nl, a0, s, w)) (hgo : ∀ c, zq_by c nl → zq_val c nl + zq_val g nl = zq_val f nl → post 0 (f_nr, nI nl, zq_wr a0 (dst * nl) nl c, s, w)) : ∀ m i (c : Nat → Nat), i + m = nl → zq_by c nl → zq_val c nl + zq_val g i = zq_val f nl → wY_sub_83 post (nI dst) f_nr (nI nl) (m + 1) (nI i) (zq_wr a0 (dst * nl) nl c) s w := by
  intro m
  induction m with
  | zero =>
    intro i c hi bc hv
    obtain rfl : i = nl := by omega
    exact br_t (nI_le (Nat.le_refl _) (by omega)) (hgo c bc hv)
  | succ m ih =>
    intro i c hi bc hv
    have hi' : i < nl := by omega
    have hgi := bg i hi'
    have e : s (nI i).toNatClampNeg = nI (g i) := by rw [zq_cl4 (by omega), hs i hi']
    have mo : zq_val g (i + 1) ≤ zq_val g nl := zq_val_mono hi'
    have st : zq_val g (i + 1) = zq_val g i + g i * 256 ^ i := rfl
    refine br_f (nI_ge hi' (by omega)) ⟨zq_in4 (by omega), nm_r e ⟨g i + 1, ?_⟩⟩
    exact zq_Ysub99 (A := zq_val f nl) (W := zq_val g (i + 1)) hi' h5 hb hf hw (fun q => hov (by omega)) (fun c' bc' hc' => ih (i + 1) c' (by omega) bc' hc') (g i) (zq_val g i) c (by omega) bc hv st.symm
end
theorem zq_Ysub {post : Int32 → SY → Prop} {a0 s0 w0 : Nat → Int32} {f g : Nat → Nat} {nr nl dst src : Nat} (h4 : nr ≤ 4) (h5 : nl ≤ 4) (hr : dst < nr) (hs : src < nr) (hf : ∀ k, k < nl → a0 (dst * nl + k) = nI (f k)) (hg : ∀ k, k < nl → a0 (src * nl + k) = nI (g k)) (bf : zq_by f nl) (bg : zq_by g nl) (hov : zq_val f nl < zq_val g nl → ∀ s w, post (-7) (nI nr, nI nl, a0, s, w)) (hgo : ∀ c s w, zq_by c nl → zq_val c nl + zq_val g nl = zq_val f nl → post 0 (nI nr, nI nl, zq_wr a0 (dst * nl) nl c, s, w)) : wpY_sub post (nI nr, nI nl, a0, s0, w0) (nI dst) (nI src) := by
  have C : ∀ s w : Nat → Int32, (∀ j, j < nl → s j = nI (g j)) → (∀ j, j < nl → w j = nI (f j)) → ∃ n83 : Nat, wY_sub_83 post (nI dst) (nI nr) (nI nl) n83 0 a0 s w := by
    intro s w ks kw
    have L := zq_Ysub83 (post := post) (f_nr := nI nr) h5 (zq_bd hr h4 h5) hf ks kw bg (fun q => hov q s w) (fun c bc hc => hgo c s w bc hc) nl 0 f (by omega) bf rfl
    rw [zq_wr_id hf] at L
    exact ⟨nl + 1, L⟩
  have L := zq_Ysub29 h5 (zq_bd hr h4 h5) (zq_bd hs h4 h5) hf hg C nl 0 s0 w0 (by omega) (fun j hj => by omega) (fun j hj => by omega)
  exact br_f (nI_pos (by omega)) (br_f (nI_ge hr (by omega)) (br_f (nI_pos (by omega)) (br_t (nI_lt hs (by omega)) ⟨nl + 1, L⟩)))
end
section
/-! the relation and what is owed -/
/-- register r, limb k holds M r k: in cell r * 4 + k of the component, in cell r * nl + k of the reference -/
def zq_R (nr nl : Nat) (M : Nat → Nat → Nat) (d a : Nat → Int32) : Prop := ∀ r k, r < nr → k < nl → M r k < 256 ∧ d (r * 4 + k) = nI (M r k) ∧ a (r * nl + k) = nI (M r k)
def i_Rel (k : Nat) (u : SX) (v : SY) : Prop := ∃ (nr nl : Nat) (M : Nat → Nat → Nat) (d a s w : Nat → Int32), nr ≤ 4 ∧ nl ≤ 4 ∧ zq_R nr nl M d a ∧ u = (nI nr, nI nl, d) ∧ v = (nI nr, nI nl, a, s, w)
theorem zq_mk {k nr nl : Nat} {M : Nat → Nat → Nat} {d a s w : Nat → Int32} (h4 : nr ≤ 4) (h5 : nl ≤ 4) (h : zq_R nr nl M d a) : i_Rel k (nI nr, nI nl, d) (nI nr, nI nl, a, s, w) := ⟨nr, nl, M, d, a, s, w, h4, h5, h, rfl, rfl⟩
theorem zq_R_wr {nr nl r : Nat} {M : Nat → Nat → Nat} {d a : Nat → Int32} {F : Nat → Nat} (h5 : nl ≤ 4) (h : zq_R nr nl M d a) (bF : zq_by F nl) : zq_R nr nl (fun r' k => if r' = r then F k else M r' k) (zq_wr d (r * 4) nl F) (zq_wr a (r * nl) nl F) := by
  intro r' k hr hk
  by_cases e : r' = r
  · subst e
    dsimp only
    rw [if_pos rfl]
    exact ⟨bF k hk, zq_wr_i hk, zq_wr_i hk⟩
  · dsimp only
    rw [if_neg e, zq_wr_o (by omega), zq_wr_o ?_]
    · exact h r' k hr hk
    · rcases Nat.lt_or_gt_of_ne e with q | q
      · have := zq_lt_mul (P := nl) q; omega
      · have := zq_lt_mul (P := nl) q; omega
theorem i_up {k : Nat} {u : SX} {v : SY} (h : i_Rel k u v) : i_Rel (k + 4) u v := h
/-! the constructors -/
def zq_c4 (x : Int32) : Int32 := if 0 ≤ x then (if x ≤ 4 then x else 4) else 0
theorem zq_c4_n (x : Int32) : ∃ n : Nat, n ≤ 4 ∧ zq_c4 x = nI n := by
  by_cases h : 0 ≤ x
  · by_cases h2 : x ≤ 4
    · obtain ⟨j, hj, e⟩ := nI_of2 (x := x) (M := 4) (n := 4) (by decide) (Int32.not_lt.mpr h) h2
      exact ⟨j, hj, (if_pos h).trans ((if_pos h2).trans e)⟩
    · exact ⟨4, Nat.le_refl _, (if_pos h).trans (if_neg h2)⟩
  · exact ⟨0, Nat.zero_le _, if_neg h⟩
theorem zq_c4_a {x : Int32} (h : 0 ≤ x) (h2 : x ≤ 4) : zq_c4 x = x := (if_pos h).trans (if_pos h2)
theorem zq_c4_b {x : Int32} (h : 0 ≤ x) (h2 : ¬ x ≤ 4) : zq_c4 x = 4 := (if_pos h).trans (if_neg h2)
theorem zq_c4_c {x : Int32} (h : ¬ 0 ≤ x) : zq_c4 x = 0 := if_neg h
theorem zq_X27 {post : SX → Prop} {x2 x3 f_nr f_nl : Int32} {d : Nat → Int32} (hp : post (x3, zq_c4 x2, d)) : wX_init_27 post x2 x3 f_nr f_nl d := by
  by_cases h : 0 ≤ x2
  · by_cases h2 : x2 ≤ 4
    · rw [zq_c4_a h h2] at hp; exact br_t h (br_t h2 hp)
    · rw [zq_c4_b h h2] at hp; exact br_t h (br_f h2 hp)
  · rw [zq_c4_c h] at hp; exact br_f h (br_t (by decide) hp)
theorem zq_X0 {post : SX → Prop} {x y : Int32} (hp : post (zq_c4 x, zq_c4 y, fun _ => 0)) : wpX_init post x y := by
  by_cases h : 0 ≤ x
  · by_cases h2 : x ≤ 4
    · rw [zq_c4_a h h2] at hp; exact br_t h (br_t h2 (zq_X27 hp))
    · rw [zq_c4_b h h2] at hp; exact br_t h (br_f h2 (zq_X27 hp))
  · rw [zq_c4_c h] at hp; exact br_f h (br_t (by decide) (zq_X27 hp))
theorem zq_Y23 {post : SY → Prop} {x2 z : Int32} : post (z, zq_c4 x2, (fun _ => 0), (fun _ => 0), (fun _ => 0)) → wY_init_23 post x2 z 0 0 := by
  intro hp
  by_cases h : 0 ≤ x2
  · by_cases h2 : x2 ≤ 4
    · rw [zq_c4_a h h2] at hp; exact br_t h (br_t h2 hp)
    · rw [zq_c4_b h h2] at hp; exact br_t h (br_f h2 hp)
  · rw [zq_c4_c h] at hp; exact br_f h hp
theorem zq_Y0 {post : SY → Prop} {x y : Int32} (hp : post (zq_c4 x, zq_c4 y, (fun _ => 0), (fun _ => 0), (fun _ => 0))) : wpY_init post x y := by
  by_cases h : 0 ≤ x
  · by_cases h2 : x ≤ 4
    · rw [zq_c4_a h h2] at hp; exact br_t h (br_t h2 (zq_Y23 hp))
    · rw [zq_c4_b h h2] at hp; exact br_t h (br_f h2 (zq_Y23 hp))
  · rw [zq_c4_c h] at hp; exact br_f h (zq_Y23 hp)
theorem i_vc0 (k0 : Int32) (k1 : Int32) : wpX_init (fun u => wpY_init (fun v => i_Rel 2 u v) k0 k1) k0 k1 := by
  obtain ⟨n0, h0, e0⟩ := zq_c4_n k0
  obtain ⟨n1, h1, e1⟩ := zq_c4_n k1
  refine zq_X0 (zq_Y0 ?_)
  rw [e0, e1]
  exact zq_mk (M := fun _ _ => 0) h0 h1 (fun r k hr hk => ⟨Nat.zero_lt_succ 255, rfl, rfl⟩)
theorem i_vc_load {k : Nat} {u : SX} {v : SY} (I : i_Rel k u v) (hk : k + 4 ≤ 2050) (v1 : Int32) (v2 : Int32) (v3 : Int32) : wpX_load (fun r u' => wpY_load (fun r' v' => r' = r ∧ i_Rel (k + 4) u' v') v v1 v2 v3) u v1 v2 v3 := by
  obtain ⟨nr, nl, M, d, a, s, w, h4, h5, h, rfl, rfl⟩ := I
  have K : i_Rel (k + 4) (nI nr, nI nl, d) (nI nr, nI nl, a, s, w) := zq_mk h4 h5 h
  by_cases c1 : v1 < 0
  · exact br_t c1 (br_t c1 ⟨rfl, K⟩)
  by_cases c2 : nI nr ≤ v1
  · exact br_f c1 (br_t c2 (br_f c1 (br_t c2 ⟨rfl, K⟩)))
  by_cases c3 : v2 < 0
  · exact br_f c1 (br_f c2 (br_t c3 (br_f c1 (br_f c2 (br_t c3 ⟨rfl, K⟩)))))
  by_cases c4 : nI nl ≤ v2
  · exact br_f c1 (br_f c2 (br_f c3 (br_t c4 (br_f c1 (br_f c2 (br_f c3 (br_t c4 ⟨rfl, K⟩)))))))
  by_cases c5 : v3 < 0
  · exact br_f c1 (br_f c2 (br_f c3 (br_f c4 (br_t c5 (br_f c1 (br_f c2 (br_f c3 (br_f c4 (br_t c5 ⟨rfl, K⟩)))))))))
  by_cases c6 : v3 ≤ 255
  · obtain ⟨r, hr, rfl⟩ := zq_ix (by omega) c1 c2
    obtain ⟨i, hi, rfl⟩ := zq_ix (by omega) c3 c4
    obtain ⟨x, hx, rfl⟩ := nI_of2 (M := 255) (n := 255) (by decide) c5 c6
    refine zq_Xload h4 h5 hr hi (by omega) (zq_Yload h4 h5 hr hi (by omega) ⟨rfl, ?_⟩)
    exact zq_mk h4 h5 (zq_R_wr h5 h (zq_by_up (fun _ _ => Nat.zero_lt_succ 255) (by omega)))
  · exact br_f c1 (br_f c2 (br_f c3 (br_f c4 (br_f c5 (br_f c6 (br_f c1 (br_f c2 (br_f c3 (br_f c4 (br_f c5 (br_f c6 ⟨rfl, K⟩)))))))))))
theorem i_vc_add {k : Nat} {u : SX} {v : SY} (I : i_Rel k u v) (hk : k + 4 ≤ 2050) (v1 : Int32) (v2 : Int32) : wpX_add (fun r u' => wpY_add (fun r' v' => r' = r ∧ i_Rel (k + 4) u' v') v v1 v2) u v1 v2 := by
  obtain ⟨nr, nl, M, d, a, s, w, h4, h5, h, rfl, rfl⟩ := I
  have K : ∀ s w : Nat → Int32, i_Rel (k + 4) (nI nr, nI nl, d) (nI nr, nI nl, a, s, w) := fun s w => zq_mk h4 h5 h
  by_cases c1 : v1 < 0
  · exact br_t c1 (br_t c1 ⟨rfl, K s w⟩)
  by_cases c2 : nI nr ≤ v1
  · exact br_f c1 (br_t c2 (br_f c1 (br_t c2 ⟨rfl, K s w⟩)))
  by_cases c3 : v2 < 0
  · exact br_f c1 (br_f c2 (br_t c3 (br_f c1 (br_f c2 (br_t c3 ⟨rfl, K s w⟩)))))
  by_cases c4 : v2 < nI nr
  · obtain ⟨p, hp, rfl⟩ := zq_ix (by omega) c1 c2
    obtain ⟨q, hq, rfl⟩ := zq_ix2 (by omega) c3 c4
    have bf : zq_by (M p) nl := fun j hj => (h p j hp hj).1
    have bg : zq_by (M q) nl := fun j hj => (h q j hq hj).1
    have V := zq_ad_val (f := M p) (g := M q) nl
    have ba : zq_by (zq_ad (M p) (M q)) nl := zq_ad_by nl
    have la := zq_val_lt nl ba
    refine zq_Xadd h4 h5 hp hq (fun j hj => (h p j hp hj).2.1) (fun j hj => (h q j hq hj).2.1) bf bg (fun hc => ?_) (fun hc => ?_)
    · rw [hc, Nat.zero_mul] at V
      refine zq_Yadd h4 h5 hp hq (fun j hj => (h p j hp hj).2.2) (fun j hj => (h q j hq hj).2.2) bf bg (fun z => absurd z (by omega)) (fun c s' w' bc hv => ⟨rfl, ?_⟩)
      rw [zq_wr_c (zq_val_inj nl bc ba (by omega))]
      exact zq_mk h4 h5 (zq_R_wr h5 h ba)
    · have c1 : zq_cy (M p) (M q) nl = 1 := by have := zq_cy_le nl bf bg; omega
      rw [c1, Nat.one_mul] at V
      refine zq_Yadd h4 h5 hp hq (fun j hj => (h p j hp hj).2.2) (fun j hj => (h q j hq hj).2.2) bf bg (fun z s' w' => ⟨rfl, K s' w'⟩) (fun c s' w' bc hv => ?_)
      have lc := zq_val_lt nl bc
      exact absurd hv (by omega)
  · exact br_f c1 (br_f c2 (br_f c3 (br_f c4 (br_f c1 (br_f c2 (br_f c3 (br_f c4 ⟨rfl, K s w⟩)))))))
theorem i_vc_sub {k : Nat} {u : SX} {v : SY} (I : i_Rel k u v) (hk : k + 4 ≤ 2050) (v1 : Int32) (v2 : Int32) : wpX_sub (fun r u' => wpY_sub (fun r' v' => r' = r ∧ i_Rel (k + 4) u' v') v v1 v2) u v1 v2 := by
  obtain ⟨nr, nl, M, d, a, s, w, h4, h5, h, rfl, rfl⟩ := I
  have K : ∀ s w : Nat → Int32, i_Rel (k + 4) (nI nr, nI nl, d) (nI nr, nI nl, a, s, w) := fun s w => zq_mk h4 h5 h
  by_cases c1 : v1 < 0
  · exact br_t c1 (br_t c1 ⟨rfl, K s w⟩)
  by_cases c2 : nI nr ≤ v1
  · exact br_f c1 (br_t c2 (br_f c1 (br_t c2 ⟨rfl, K s w⟩)))
  by_cases c3 : v2 < 0
  · exact br_f c1 (br_f c2 (br_t c3 (br_f c1 (br_f c2 (br_t c3 ⟨rfl, K s w⟩)))))
  by_cases c4 : v2 < nI nr
  · obtain ⟨p, hp, rfl⟩ := zq_ix (by omega) c1 c2
    obtain ⟨q, hq, rfl⟩ := zq_ix2 (by omega) c3 c4
    have bf : zq_by (M p) nl := fun j hj => (h p j hp hj).1
    have bg : zq_by (M q) nl := fun j hj => (h q j hq hj).1
    have V := zq_sb_val nl bf bg
    have ba : zq_by (zq_sb (M p) (M q)) nl := zq_sb_by bf
    have la := zq_val_lt nl ba
    refine zq_Xsub h4 h5 hp hq (fun j hj => (h p j hp hj).2.1) (fun j hj => (h q j hq hj).2.1) bf bg (fun hc => ?_) (fun hc => ?_)
    · rw [hc, Nat.zero_mul] at V
      refine zq_Ysub h4 h5 hp hq (fun j hj => (h p j hp hj).2.2) (fun j hj => (h q j hq hj).2.2) bf bg (fun z => absurd z (by omega)) (fun c s' w' bc hv => ⟨rfl, ?_⟩)
      rw [zq_wr_c (zq_val_inj nl bc ba (by omega))]
      exact zq_mk h4 h5 (zq_R_wr h5 h ba)
    · have c1 : zq_bw (M p) (M q) nl = 1 := by have := zq_bw_le (f := M p) (g := M q) nl; omega
      rw [c1, Nat.one_mul] at V
      refine zq_Ysub h4 h5 hp hq (fun j hj => (h p j hp hj).2.2) (fun j hj => (h q j hq hj).2.2) bf bg (fun z s' w' => ⟨rfl, K s' w'⟩) (fun c s' w' bc hv => ?_)
      exact absurd hv (by omega)
  · exact br_f c1 (br_f c2 (br_f c3 (br_f c4 (br_f c1 (br_f c2 (br_f c3 (br_f c4 ⟨rfl, K s w⟩)))))))
theorem i_vc_cmp {k : Nat} {u : SX} {v : SY} (I : i_Rel k u v) (hk : k + 4 ≤ 2050) (v1 : Int32) (v2 : Int32) : wpX_cmp (fun r => wpY_cmp (fun r' => r' = r ∧ i_Rel (k + 4) u v) v v1 v2) u v1 v2 := by
  obtain ⟨nr, nl, M, d, a, s, w, h4, h5, h, rfl, rfl⟩ := I
  have K : i_Rel (k + 4) (nI nr, nI nl, d) (nI nr, nI nl, a, s, w) := zq_mk h4 h5 h
  by_cases c1 : v1 < 0
  · exact br_t c1 (br_t c1 ⟨rfl, K⟩)
  by_cases c2 : nI nr ≤ v1
  · exact br_f c1 (br_t c2 (br_f c1 (br_t c2 ⟨rfl, K⟩)))
  by_cases c3 : v2 < 0
  · exact br_f c1 (br_f c2 (br_t c3 (br_f c1 (br_f c2 (br_t c3 ⟨rfl, K⟩)))))
  by_cases c4 : v2 < nI nr
  · obtain ⟨p, hp, rfl⟩ := zq_ix (by omega) c1 c2
    obtain ⟨q, hq, rfl⟩ := zq_ix2 (by omega) c3 c4
    have bf : zq_by (M p) nl := fun j hj => (h p j hp hj).1
    have bg : zq_by (M q) nl := fun j hj => (h q j hq hj).1
    refine zq_Xcmp h4 h5 hp hq (fun j hj => (h p j hp hj).2.1) (fun j hj => (h q j hq hj).2.1) bf bg ?_
    exact zq_Ycmp h4 h5 hp hq (fun j hj => (h p j hp hj).2.2) (fun j hj => (h q j hq hj).2.2) bf bg ⟨rfl, K⟩
  · exact br_f c1 (br_f c2 (br_f c3 (br_f c4 (br_f c1 (br_f c2 (br_f c3 (br_f c4 ⟨rfl, K⟩)))))))
theorem i_vc_limb {k : Nat} {u : SX} {v : SY} (I : i_Rel k u v) (hk : k + 4 ≤ 2050) (v1 : Int32) (v2 : Int32) : wpX_limb (fun r => wpY_limb (fun r' => r' = r ∧ i_Rel (k + 4) u v) v v1 v2) u v1 v2 := by
  obtain ⟨nr, nl, M, d, a, s, w, h4, h5, h, rfl, rfl⟩ := I
  have K : i_Rel (k + 4) (nI nr, nI nl, d) (nI nr, nI nl, a, s, w) := zq_mk h4 h5 h
  by_cases c1 : v1 < 0
  · exact br_t c1 (br_t c1 ⟨rfl, K⟩)
  by_cases c2 : nI nr ≤ v1
  · exact br_f c1 (br_t c2 (br_f c1 (br_t c2 ⟨rfl, K⟩)))
  by_cases c3 : v2 < 0
  · exact br_f c1 (br_f c2 (br_t c3 (br_f c1 (br_f c2 (br_t c3 ⟨rfl, K⟩)))))
  by_cases c4 : v2 < nI nl
  · obtain ⟨p, hp, rfl⟩ := zq_ix (by omega) c1 c2
    obtain ⟨j, hj, rfl⟩ := zq_ix2 (by omega) c3 c4
    have b := zq_bd hp h4 h5
    have e1 : d (nI p * 4 + nI j).toNatClampNeg = nI (M p j) := by rw [zq_m4, zq_cl (by omega)]; exact (h p j hp hj).2.1
    have e2 : a (nI p * nI nl + nI j).toNatClampNeg = nI (M p j) := by rw [zq_cl2 (by omega)]; exact (h p j hp hj).2.2
    have i1 : vp_in (nI p * 4 + nI j) 16 := by rw [zq_m4]; exact zq_in (by omega)
    refine br_f c1 (br_f c2 (br_f c3 (br_t c4 ⟨i1, ?_⟩)))
    refine br_f c1 (br_f c2 (br_f c3 (br_t c4 ⟨zq_in2 (by omega), ?_⟩)))
    exact ⟨e2.trans e1.symm, K⟩
  · exact br_f c1 (br_f c2 (br_f c3 (br_f c4 (br_f c1 (br_f c2 (br_f c3 (br_f c4 ⟨rfl, K⟩)))))))
end
