section
/-! rows of the kit to paste (PURE-ROWS), those that are used here -/
theorem pk_us {f : Nat → Int32} {k : Nat} {x : Int32} : upd f k x k = x := if_pos rfl
theorem pk_un {f : Nat → Int32} {k j : Nat} {x : Int32} (h : j ≠ k) : upd f k x j = f j := if_neg h
theorem pk_sub {a b : Nat} (h : b ≤ a) : nI a - nI b = nI (a - b) := by
  obtain ⟨c, rfl⟩ : ∃ c, a = c + b := ⟨a - b, by omega⟩
  rw [← nI_add, Int32.add_sub_cancel, Nat.add_sub_cancel]
theorem pk_m1 (n : Nat) : nI (n + 1) + (-1) = nI n := by
  rw [← nI_1, Int32.add_assoc, show (1 : Int32) + (-1) = 0 from rfl, Int32.add_zero]
theorem pk_mul (a b : Nat) : nI a * nI b = nI (a * b) := (Int32.ofNat_mul a b).symm
theorem pk_div {a d : Nat} (ha : a < 2 ^ 31) (h0 : 0 < d) (hd : d < 2 ^ 31) : nI a / nI d = nI (a / d) := by
  apply Int32.toInt_inj.mp
  rw [lg_idiv_nonneg (by rw [nI_toInt ha]; omega) (by rw [nI_toInt hd]; omega), nI_toInt ha, nI_toInt hd, nI_toInt (Nat.lt_of_le_of_lt (Nat.div_le_self a d) ha)]
  first | rfl | exact (Int.natCast_ediv _ _).symm
theorem pk_rem {a d : Nat} (ha : a < 2 ^ 31) (h0 : 0 < d) (hd : d < 2 ^ 31) : nI a - nI a / nI d * nI d = nI (a % d) := by
  rw [pk_div ha h0 hd, pk_mul, pk_sub (Nat.div_mul_le_self a d)]
  exact congrArg nI (by have := Nat.div_add_mod' a d; omega)
theorem pk_sub_toInt {a b : Nat} (ha : a < 2 ^ 30) (hb : b < 2 ^ 30) : (nI a - nI b).toInt = (a : Int) - b := by
  rw [Int32.toInt_sub, nI_toInt (by omega), nI_toInt (by omega)]
  exact Int.bmod_eq_of_le (by omega) (by omega)
theorem pk_sneg {a b : Nat} (hb : b < 2 ^ 30) (h : a < b) : nI a - nI b < 0 := by
  rw [Int32.lt_iff_toInt_lt, pk_sub_toInt (by omega) hb, show (0 : Int32).toInt = 0 from by decide]
  omega
theorem pk_ix (x : Int32) {n : Nat} (hn : n < 2 ^ 31) : x < 0 ∨ nI n ≤ x ∨ ∃ j : Nat, j < n ∧ x = nI j := by
  by_cases h : x < 0
  · exact Or.inl h
  · obtain ⟨j, hj, rfl⟩ := nI_of h
    by_cases h2 : j < n
    · exact Or.inr (Or.inr ⟨j, h2, rfl⟩)
    · exact Or.inr (Or.inl (nI_le (by omega) hj))
theorem pk_le {x y : Int32} {A B : Prop} (a b : Nat) (f : a ≤ b → A) (g : b < a → B) (hx : x = nI a := by rfl) (hy : y = nI b := by rfl) (ha : a < 2 ^ 31 := by omega) (hb : b < 2 ^ 31 := by omega) : (x ≤ y → A) ∧ (¬ x ≤ y → B) := by
  subst hx hy
  rw [nI_leI ha hb]
  exact ⟨f, fun z => g (by omega)⟩
theorem pk_lt {x y : Int32} {A B : Prop} (a b : Nat) (f : a < b → A) (g : b ≤ a → B) (hx : x = nI a := by rfl) (hy : y = nI b := by rfl) (ha : a < 2 ^ 31 := by omega) (hb : b < 2 ^ 31 := by omega) : (x < y → A) ∧ (¬ x < y → B) := by
  subst hx hy
  rw [nI_ltI ha hb]
  exact ⟨f, fun z => g (by omega)⟩
theorem pk_eq {x y : Int32} {A B : Prop} (a b : Nat) (f : a = b → A) (g : a ≠ b → B) (hx : x = nI a := by rfl) (hy : y = nI b := by rfl) (ha : a < 2 ^ 31 := by omega) (hb : b < 2 ^ 31 := by omega) : (x = y → A) ∧ (¬ x = y → B) := by
  subst hx hy
  rw [nI_eq ha hb]
  exact ⟨f, g⟩
theorem pk_in {x : Int32} (n N : Nat) (h : n < N) (hx : x = nI n := by rfl) (hN : N < 2 ^ 31 := by omega) : vp_in x N := by
  subst hx
  exact vp_in_nI h hN
theorem pk_cl {x : Int32} (n : Nat) (hx : x = nI n := by rfl) (h : n < 2 ^ 31 := by omega) : x.toNatClampNeg = n := by
  subst hx
  exact nI_clamp h
theorem pk_tn {n : Nat} (h : n < 2 ^ 32) : (nI n).toBitVec.toNat = n := Nat.mod_eq_of_lt h
theorem pk_and (x : Int32) {m : Int32} (k : Nat) (hm : m.toBitVec.toNat = 2 ^ k - 1) : x &&& m = nI (x.toBitVec.toNat % 2 ^ k) := by
  apply Int32.toBitVec_inj.mp
  apply BitVec.eq_of_toNat_eq
  rw [Int32.toBitVec_and, BitVec.toNat_and, hm, Nat.and_two_pow_sub_one_eq_mod]
  show _ = (BitVec.ofNat 32 _).toNat
  rw [BitVec.toNat_ofNat]
  exact (Nat.mod_eq_of_lt (Nat.lt_of_le_of_lt (Nat.mod_le _ _) x.toBitVec.isLt)).symm
theorem pk_andN {n : Nat} (h : n < 2 ^ 32) {m : Int32} (k : Nat) (hm : m.toBitVec.toNat = 2 ^ k - 1) : nI n &&& m = nI (n % 2 ^ k) := by
  rw [pk_and _ k hm, pk_tn h]
theorem pk_andE (x : Int32) {m : Int32} (k : Nat) (hm : m.toBitVec.toNat = 2 ^ k - 1) : ∃ j : Nat, j < 2 ^ k ∧ x &&& m = nI j := ⟨_, Nat.mod_lt _ (Nat.two_pow_pos k), pk_and x k hm⟩
theorem pk_andIn (x : Int32) {m : Int32} (k : Nat) (hm : m.toBitVec.toNat = 2 ^ k - 1) (hk : k ≤ 30) : vp_in (x &&& m) (2 ^ k) := by
  obtain ⟨j, hj, e⟩ := pk_andE x k hm
  rw [e]
  exact vp_in_nI hj (Nat.lt_of_le_of_lt (Nat.pow_le_pow_right (by decide) hk) (by decide))
theorem pk_shr (a s : Int32) (k : Nat) (hs : (s.toBitVec.smod 32).toNat = k) : (a >>> s).toInt = a.toInt >>> k := by
  show (a.toBitVec.sshiftRight (s.toBitVec.smod 32).toNat).toInt = _
  rw [hs, BitVec.toInt_sshiftRight]
  rfl
theorem pk_shrN {n : Nat} (h : n < 2 ^ 31) (s : Int32) (k : Nat) (hs : (s.toBitVec.smod 32).toNat = k) : nI n >>> s = nI (n / 2 ^ k) := by
  apply Int32.toInt_inj.mp
  have h2 : n / 2 ^ k ≤ n := Nat.div_le_self _ _
  rw [pk_shr _ _ k hs, nI_toInt h, nI_toInt (by omega), Int.shiftRight_eq_div_pow]
  rfl
theorem pk_nb (z : Int32) : narrow .byte (.int z.toInt8.toInt32) = .int z.toInt8.toInt32 := congrArg Value.int (by simp)
theorem pk_ns (z : Int32) : narrow .short (.int z.toInt16.toInt32) = .int z.toInt16.toInt32 := congrArg Value.int (by simp)
theorem pk_vb (z : Int32) : vp_nar .byte z.toInt8.toInt32 = z.toInt8.toInt32 := by rw [vp_nar_byte]; simp
theorem pk_vs (z : Int32) : vp_nar .short z.toInt16.toInt32 = z.toInt16.toInt32 := by rw [vp_nar_short]; simp
theorem pk_least (P : Nat → Prop) (h : ∃ k, P k) : ∃ k, P k ∧ ∀ j, j < k → ¬ P j := by
  obtain ⟨k, hk⟩ := h
  induction k using Nat.strongRecOn with
  | ind k ih =>
    by_cases e : ∃ j, j < k ∧ P j
    · obtain ⟨j, hj, pj⟩ := e
      exact ih j hj pj
    · exact ⟨k, hk, fun j hj pj => e ⟨j, hj, pj⟩⟩
theorem sb_negT {w : Nat} (h : w < 2 ^ 31) : (-nI w).toInt = -(w : Int) := by
  rw [Int32.toInt_neg, nI_toInt h]
  exact Int.bmod_eq_of_le (by omega) (by omega)
end
section
/-! values of digit runs, plain: dl_v B d a n = sum over k < n of d (a + k) * B ^ k -/
def dl_v (B : Nat) (d : Nat → Nat) (a : Nat) : Nat → Nat
  | 0 => 0
  | n + 1 => dl_v B d a n + d (a + n) * B ^ n
section
variable {B : Nat} {d e : Nat → Nat} {a b : Nat}
theorem dl_0 : dl_v B d a 0 = 0 := rfl
theorem dl_s {n : Nat} : dl_v B d a (n + 1) = dl_v B d a n + d (a + n) * B ^ n := rfl
theorem dl_congr {n : Nat} (h : ∀ k, k < n → d (a + k) = e (b + k)) : dl_v B d a n = dl_v B e b n := by
  induction n with
  | zero => rfl
  | succ n ih => rw [dl_s, dl_s, ih (fun k hk => h k (by omega)), h n (by omega)]
theorem dl_lt {n : Nat} (h : ∀ k, k < n → d (a + k) < B) : dl_v B d a n < B ^ n := by
  induction n with
  | zero => exact Nat.one_pos
  | succ n ih =>
    have h1 := ih (fun k hk => h k (by omega))
    have h2 : (d (a + n) + 1) * B ^ n ≤ B * B ^ n := Nat.mul_le_mul_right _ (h n (by omega))
    rw [dl_s, Nat.pow_succ, Nat.mul_comm (B ^ n) B]
    rw [Nat.add_mul, Nat.one_mul] at h2
    omega
theorem dl_app (n : Nat) : ∀ m : Nat, dl_v B d a (n + m) = dl_v B d a n + B ^ n * dl_v B d (a + n) m
  | 0 => by rw [dl_0, Nat.mul_zero]; rfl
  | m + 1 => by
    rw [← Nat.add_assoc, dl_s, dl_s, dl_app n m, Nat.pow_add, Nat.mul_add, ← Nat.add_assoc, ← Nat.add_assoc, Nat.mul_left_comm]
theorem dl_low {n : Nat} : dl_v B d a (n + 1) = d a + B * dl_v B d (a + 1) n := by
  rw [Nat.add_comm n 1, dl_app 1 n, Nat.pow_one, dl_s, dl_0]
  simp
theorem dl_z {n : Nat} (h : ∀ k, k < n → d (a + k) = 0) : dl_v B d a n = 0 := by
  induction n with
  | zero => rfl
  | succ n ih => rw [dl_s, ih (fun k hk => h k (by omega)), h n (by omega), Nat.zero_mul]
theorem dl_z' (hB : 0 < B) {n : Nat} (h : dl_v B d a n = 0) : ∀ k, k < n → d (a + k) = 0 := by
  induction n with
  | zero => intro k hk; omega
  | succ n ih =>
    rw [dl_s] at h
    intro k hk
    have hp : 0 < B ^ n := Nat.pow_pos hB
    have h2 : d (a + n) * B ^ n = 0 := by omega
    rcases Nat.lt_or_ge k n with z | z
    · exact ih (by omega) k z
    · have e : k = n := by omega
      subst e
      rcases Nat.mul_eq_zero.mp h2 with q | q
      · exact q
      · omega
theorem dl_ext {n m : Nat} (hm : m ≤ n) (h : ∀ k, m ≤ k → k < n → d (a + k) = 0) : dl_v B d a n = dl_v B d a m := by
  obtain ⟨r, rfl⟩ : ∃ r, n = m + r := ⟨n - m, by omega⟩
  rw [dl_app, dl_z (a := a + m) (fun k hk => by rw [Nat.add_assoc]; exact h (m + k) (by omega) (by omega))]
  omega
theorem dl_dig {n k : Nat} (h : ∀ k, k < n → d (a + k) < B) (hk : k < n) : d (a + k) = dl_v B d a n / B ^ k % B := by
  obtain ⟨r, rfl⟩ : ∃ r, n = k + (r + 1) := ⟨n - k - 1, by omega⟩
  have hB : 0 < B := Nat.lt_of_le_of_lt (Nat.zero_le _) (h k hk)
  have hp : 0 < B ^ k := Nat.pow_pos hB
  rw [dl_app, dl_low, Nat.add_mul_div_left _ _ hp, Nat.div_eq_of_lt (dl_lt (fun j hj => h j (by omega))), Nat.zero_add, Nat.add_mul_mod_self_left, Nat.mod_eq_of_lt (h k hk)]
theorem dl_of {n v : Nat} (h : ∀ k, k < n → d (a + k) = v / B ^ k % B) : dl_v B d a n = v % B ^ n := by
  induction n with
  | zero => rw [dl_0, Nat.pow_zero, Nat.mod_one]
  | succ n ih => rw [dl_s, ih (fun k hk => h k (by omega)), h n (by omega), Nat.pow_succ, Nat.mod_mul, Nat.mul_comm]
theorem dl_of' {n v : Nat} (hv : v < B ^ n) (h : ∀ k, k < n → d (a + k) = v / B ^ k % B) : dl_v B d a n = v := by
  rw [dl_of h, Nat.mod_eq_of_lt hv]
theorem dl_top {n m : Nat} (hB : 0 < B) (hm : m ≤ n) (h : dl_v B d a n < B ^ m) : ∀ k, m ≤ k → k < n → d (a + k) = 0 := by
  obtain ⟨r, rfl⟩ : ∃ r, n = m + r := ⟨n - m, by omega⟩
  rw [dl_app] at h
  have h0 : dl_v B d (a + m) r = 0 := by
    rcases Nat.eq_zero_or_pos (dl_v B d (a + m) r) with z | z
    · exact z
    · have := Nat.le_mul_of_pos_right (B ^ m) z
      omega
  intro k h1 h2
  have := dl_z' hB h0 (k - m) (by omega)
  rwa [show a + m + (k - m) = a + k by omega] at this
theorem dl_cut {n m : Nat} (hB : 0 < B) (hm : m ≤ n) (h : dl_v B d a n < B ^ m) : dl_v B d a n = dl_v B d a m :=
  dl_ext hm (dl_top hB hm h)
theorem dl_mono {n m : Nat} (hm : m ≤ n) : dl_v B d a m ≤ dl_v B d a n := by
  obtain ⟨r, rfl⟩ : ∃ r, n = m + r := ⟨n - m, by omega⟩
  rw [dl_app]; omega
theorem dl_ge {n k : Nat} (hk : k < n) (h : 0 < d (a + k)) : B ^ k ≤ dl_v B d a n := by
  have h1 := dl_mono (B := B) (d := d) (a := a) (show k + 1 ≤ n from hk)
  have h2 := Nat.le_mul_of_pos_left (B ^ k) h
  rw [dl_s] at h1
  omega
/-- the lower run decides only if the upper are alike -/
theorem dl_lex {n k : Nat} (hk : k < n) (hd : ∀ j, j < n → d (a + j) < B) (he : ∀ j, j < n → e (b + j) < B) (hu : ∀ j, k < j → j < n → d (a + j) = e (b + j)) (h : d (a + k) < e (b + k)) :
    dl_v B d a n < dl_v B e b n := by
  obtain ⟨r, rfl⟩ : ∃ r, n = k + 1 + r := ⟨n - k - 1, by omega⟩
  rw [dl_app (k + 1) r, dl_app (k + 1) r, dl_congr (d := d) (e := e) (a := a + (k + 1)) (b := b + (k + 1)) (n := r) (fun j hj => by
    have := hu (k + 1 + j) (by omega) (by omega)
    rwa [← Nat.add_assoc a (k + 1) j, ← Nat.add_assoc b (k + 1) j] at this)]
  have h1 := dl_lt (B := B) (d := d) (a := a) (n := k) (fun j hj => hd j (by omega))
  have h2 : (d (a + k) + 1) * B ^ k ≤ e (b + k) * B ^ k := Nat.mul_le_mul_right _ h
  rw [Nat.add_mul, Nat.one_mul] at h2
  rw [dl_s, dl_s]
  omega
end
/-! arrays of numbers as arrays of ints -/
def dn_A (d : Nat → Nat) : Nat → Int32 := fun k => nI (d k)
def dn_u (d : Nat → Nat) (i v : Nat) : Nat → Nat := fun j => if j = i then v else d j
theorem dn_us {d : Nat → Nat} {i v : Nat} : dn_u d i v i = v := if_pos rfl
theorem dn_un {d : Nat → Nat} {i v j : Nat} (h : j ≠ i) : dn_u d i v j = d j := if_neg h
theorem dn_up {d : Nat → Nat} {i v : Nat} : upd (dn_A d) i (nI v) = dn_A (dn_u d i v) := by
  funext j
  unfold upd dn_A dn_u
  by_cases h : j = i
  · rw [if_pos h, if_pos h]
  · rw [if_neg h, if_neg h]
/-- the store at an index given as an int -/
theorem dn_st {d : Nat → Nat} {x y : Int32} (i v : Nat) (hx : x = nI i) (hy : y = nI v) (hi : i < 2 ^ 31) : upd (dn_A d) x.toNatClampNeg y = dn_A (dn_u d i v) := by
  rw [hx, hy, nI_clamp hi, dn_up]
/-- the read -/
theorem dn_rd {d : Nat → Nat} {x : Int32} (i : Nat) (hx : x = nI i) (hi : i < 2 ^ 31) : dn_A d x.toNatClampNeg = nI (d i) := by
  rw [hx, nI_clamp hi]; rfl
/-- a run whose digit at one place is changed -/
theorem dl_u {B : Nat} {d : Nat → Nat} {a n i v : Nat} (h : i < a ∨ a + n ≤ i) : dl_v B (dn_u d i v) a n = dl_v B d a n :=
  dl_congr (fun k hk => dn_un (by omega))
theorem dl_us {B : Nat} {d : Nat → Nat} {a n v : Nat} : dl_v B (dn_u d (a + n) v) a (n + 1) = dl_v B d a n + v * B ^ n := by
  rw [dl_s, dl_u (Or.inr (Nat.le_refl _)), dn_us]
end
section
/-! the component's work array: the small passes -/
def bd_ (d : Nat → Nat) : Prop := ∀ j, d j < 10000
/-- d' is d outside a .. b -/
def fr_ (d d' : Nat → Nat) (a b : Nat) : Prop := ∀ j, (j < a ∨ b ≤ j) → d' j = d j
theorem fr_r {d : Nat → Nat} {a b : Nat} : fr_ d d a b := fun _ _ => rfl
theorem fr_t {d e f : Nat → Nat} {a b a1 b1 a2 b2 : Nat} (h1 : fr_ d e a1 b1) (h2 : fr_ e f a2 b2) (g1 : a ≤ a1) (g2 : b1 ≤ b) (g3 : a ≤ a2) (g4 : b2 ≤ b) : fr_ d f a b := fun j hj => by
  rw [h2 j (by omega), h1 j (by omega)]
theorem fr_v {B : Nat} {d e : Nat → Nat} {a b c n : Nat} (h : fr_ d e a b) (g : c + n ≤ a ∨ b ≤ c) : dl_v B e c n = dl_v B d c n :=
  dl_congr (fun k hk => h _ (by omega))
theorem fr_u {d : Nat → Nat} {a b i v : Nat} (h1 : a ≤ i) (h2 : i < b) : fr_ d (dn_u d i v) a b := fun j hj => dn_un (by omega)
theorem fr_k {d e : Nat → Nat} {a b a2 b2 i v : Nat} (h : fr_ (dn_u d i v) e a2 b2) (h1 : a ≤ i) (h2 : i < b) (h3 : a ≤ a2) (h4 : b2 ≤ b) : fr_ d e a b := fun j hj => by
  rw [h j (by omega), dn_un (by omega)]
theorem bd_u {d : Nat → Nat} {i v : Nat} (h : bd_ d) (hv : v < 10000) : bd_ (dn_u d i v) := fun j => by
  unfold dn_u
  by_cases z : j = i
  · rw [if_pos z]; exact hv
  · rw [if_neg z]; exact h j
theorem b_of {d : Nat → Nat} (h : bd_ d) {j : Nat} : d j < 10000 := h j
theorem ni_m (r c : Nat) : nI r * nI c = nI (r * c) := pk_mul r c
theorem ni_ma (r c k : Nat) : nI r * nI c + nI k = nI (r * c + k) := by rw [pk_mul, nI_add]
theorem ni_3 (a b c : Nat) : nI a + nI b + nI c = nI (a + b + c) := by rw [nI_add, nI_add]
theorem ni_am (a b : Nat) : nI a + nI (b + 1) - 1 = nI (a + b) := by rw [nI_add]; exact nI_pred (a + b)
def rg_l (v : Nat → Nat) : Nat → Nat := fun k => v (k / 10) / 10000 ^ (k % 10) % 10000
def rg_d (v : Nat → Nat) : Nat → Nat := fun k => v (k / 40) / 10 ^ (k % 40) % 10
section
variable {fS fC fA fP fW fE fN fT : Int32} {aL aG aC aT aO aR aA aK aH aB aW : Nat → Int32}
variable {post : SX → Prop}
theorem xz_l {a n : Nat} (h : a + n ≤ 240) : ∀ (m i : Nat) (d : Nat → Nat), i + m = a + n → a ≤ i →
    (∀ d', (∀ j, i ≤ j → j < a + n → d' j = 0) → fr_ d d' i (a + n) → post (fS, fC, fA, fP, fW, fE, fN, fT, aL, aG, aC, aT, aO, aR, aA, aK, aH, aB, dn_A d')) →
    wX_zero_2 post (nI a) (nI n) fS fC fA fP fW fE fN fT (m + 1) (nI i) aL aG aC aT aO aR aA aK aH aB (dn_A d)
  | 0, i, d, hi, _, K => pk_le (a + n) i (fun _ => K d (fun j _ _ => by omega) fr_r) (fun z => by omega) (nI_add _ _)
  | m + 1, i, d, hi, ha, K => by
    refine pk_le (a + n) i (fun z => by omega) (fun _ => ⟨pk_in i 240 (by omega), nm_r (dn_st i 0 rfl rfl (by omega)) (nm_r (nI_1 i) (xz_l h m (i + 1) _ (by omega) (by omega) (fun d' h1 h2 => K d' (fun j g1 g2 => ?_) (fr_k h2 (by omega) (by omega) (by omega) (by omega)))))⟩) (nI_add _ _)
    rcases Nat.eq_or_lt_of_le g1 with e | e
    · rw [← e, h2 i (by omega), dn_us]
    · exact h1 j e g2
theorem x_zero {d : Nat → Nat} (hB : bd_ d) (a n : Nat) (h : a + n ≤ 240)
    (K : ∀ d', bd_ d' → (∀ j, a ≤ j → j < a + n → d' j = 0) → fr_ d d' a (a + n) → post (fS, fC, fA, fP, fW, fE, fN, fT, aL, aG, aC, aT, aO, aR, aA, aK, aH, aB, dn_A d')) :
    wpX_zero post (fS, fC, fA, fP, fW, fE, fN, fT, aL, aG, aC, aT, aO, aR, aA, aK, aH, aB, dn_A d) (nI a) (nI n) :=
  ⟨n + 1, xz_l h n a d rfl (Nat.le_refl _) (fun d' h1 h2 => K d' (fun j => by
    by_cases z : a ≤ j ∧ j < a + n
    · rw [h1 j z.1 z.2]; omega
    · rw [h2 j (by omega)]; exact hB j) h1 h2)⟩

/-! the register file in limbs and in digits -/
theorem rg_10 {r k : Nat} (hk : k < 10) : (r * 10 + k) / 10 = r ∧ (r * 10 + k) % 10 = k := by omega
theorem xl_l {v : Nat → Nat} {r a : Nat} (hr : r < 28) (h : a + 32 ≤ 240) : ∀ (m k : Nat) (d : Nat → Nat), k + m = 10 →
    (∀ d', (∀ j, k ≤ j → j < 10 → d' (a + j) = rg_l v (r * 10 + j)) → fr_ d d' (a + k) (a + 10) → post (fS, fC, fA, fP, fW, fE, fN, fT, dn_A (rg_l v), aG, aC, aT, aO, aR, aA, aK, aH, aB, dn_A d')) →
    wX_load_9 post (nI r) (nI a) fS fC fA fP fW fE fN fT (m + 1) (nI k) (dn_A (rg_l v)) aG aC aT aO aR aA aK aH aB (dn_A d)
  | 0, k, d, hi, K => pk_le 10 k (fun _ => K d (fun j _ _ => by omega) fr_r) (fun z => by omega)
  | m + 1, k, d, hi, K => by
    refine pk_le 10 k (fun z => by omega) (fun _ => ⟨pk_in (r * 10 + k) 280 (by omega) (ni_ma r 10 k), pk_in (a + k) 240 (by omega) (nI_add _ _),
      nm_r (dn_st (a + k) (rg_l v (r * 10 + k)) (nI_add _ _) (dn_rd _ (ni_ma r 10 k) (by omega)) (by omega)) (nm_r (nI_1 k) (xl_l hr h m (k + 1) _ (by omega) (fun d' h1 h2 => K d' (fun j g1 g2 => ?_) (fr_k h2 (by omega) (by omega) (by omega) (by omega)))))⟩)
    rcases Nat.eq_or_lt_of_le g1 with e | e
    · rw [← e, h2 (a + k) (by omega), dn_us]
    · exact h1 j e g2
theorem x_load {d v : Nat → Nat} (hB : bd_ d) (r a : Nat) (hr : r < 28) (hv : v r < 10 ^ 40) (h : a + 32 ≤ 240)
    (K : ∀ d', bd_ d' → dl_v 10000 d' a 10 = v r → (∀ j, a + 10 ≤ j → j < a + 32 → d' j = 0) → fr_ d d' a (a + 32) → post (fS, fC, fA, fP, fW, fE, fN, fT, dn_A (rg_l v), aG, aC, aT, aO, aR, aA, aK, aH, aB, dn_A d')) :
    wpX_load post (fS, fC, fA, fP, fW, fE, fN, fT, dn_A (rg_l v), aG, aC, aT, aO, aR, aA, aK, aH, aB, dn_A d) (nI r) (nI a) := by
  unfold wpX_load
  refine x_zero hB a 32 h (fun d1 b1 z1 f1 => ⟨11, xl_l hr h 10 0 d1 rfl (fun d2 h2 f2 => K d2 (fun j => ?_) ?_ (fun j g1 g2 => ?_) (fr_t f1 f2 (Nat.le_refl _) (Nat.le_refl _) (by omega) (by omega)))⟩)
  · by_cases z : a ≤ j ∧ j < a + 10
    · have := h2 (j - a) (by omega) (by omega)
      rw [show a + (j - a) = j by omega] at this
      rw [this]; exact Nat.mod_lt _ (by decide)
    · rw [f2 j (by omega)]; exact b1 j
  · refine dl_of' (by rw [show (10000 : Nat) ^ 10 = 10 ^ 40 by decide]; exact hv) (fun k hk => ?_)
    rw [h2 k (by omega) hk]
    unfold rg_l
    rw [(rg_10 hk).1, (rg_10 hk).2]
  · rw [f2 j (by omega)]; exact z1 j (by omega) g2
variable {pi : Int32 → Prop}
theorem xs_l {a : Nat} {d : Nat → Nat} (hB : bd_ d) : ∀ k : Nat, a + k ≤ 240 →
    (∀ j, j ≤ k → (∀ i, j ≤ i → i < k → d (a + i) = 0) → (j = 0 ∨ 0 < d (a + (j - 1))) → pi (nI j)) →
    wX_size_2 pi (nI a) fS fC fA fP fW fE fN fT aL aG aC aT aO aR aA aK aH aB (dn_A d) (k + 1) (nI k)
  | 0, _, K => pk_le 0 0 (fun _ => K 0 (Nat.le_refl _) (fun i _ _ => by omega) (Or.inl rfl)) (fun z => by omega)
  | k + 1, h, K => pk_le (k + 1) 0 (fun z => by omega) (fun _ => ⟨pk_in (a + k) 240 (by omega) (ni_am a k),
      pk_eq (d (a + k)) 0 (fun z => nm_r (pk_m1 k) (xs_l hB k (by omega) (fun j h1 h2 h3 => K j (by omega) (fun i g1 g2 => by
        rcases Nat.lt_or_ge i k with q | q
        · exact h2 i g1 q
        · rw [show i = k by omega]; exact z) h3)))
        (fun z => K (k + 1) (Nat.le_refl _) (fun i _ _ => by omega) (Or.inr (by show 0 < d (a + k); omega)))
        (dn_rd (a + k) (ni_am a k) (by omega)) rfl (by have := hB (a + k); omega)⟩)
/-- the number of limbs that matter -/
theorem x_size {d : Nat → Nat} (hB : bd_ d) (a n : Nat) (h : a + n ≤ 240)
    (K : ∀ k, k ≤ n → dl_v 10000 d a n = dl_v 10000 d a k → (∀ i, k ≤ i → i < n → d (a + i) = 0) → (k = 0 ∨ 0 < d (a + (k - 1))) → pi (nI k)) :
    wpX_size pi (fS, fC, fA, fP, fW, fE, fN, fT, aL, aG, aC, aT, aO, aR, aA, aK, aH, aB, dn_A d) (nI a) (nI n) :=
  ⟨n + 1, xs_l hB n h (fun j h1 h2 h3 => K j h1 (dl_ext h1 h2) h2 h3)⟩
theorem x_ten (k : Nat) (hk : k < 4) (K : pi (nI (10 ^ k))) : wpX_ten pi (nI k) := by
  have : k = 0 ∨ k = 1 ∨ k = 2 ∨ k = 3 := by omega
  rcases this with rfl | rfl | rfl | rfl
  · exact br_f (by decide) (br_f (by decide) (br_t (by decide) K))
  · exact br_f (by decide) (br_f (by decide) (br_f (by decide) (br_t (by decide) K)))
  · exact br_f (by decide) (br_f (by decide) (br_f (by decide) (br_f (by decide) (br_t (by decide) K))))
  · exact br_f (by decide) (br_t (by decide) K)
end
end
section
/-! the component's passes over limbs: times a small number, divided by one, shifts, order, sum, difference, product -/
theorem pa_mul {B q t c v X Y P c' : Nat} (hv : v = t * q + c) (H : X + c' * P = Y * q + v / B) : (v % B + B * X) + c' * (P * B) = (t + B * Y) * q + c := by
  have h := Nat.div_add_mod v B
  have h2 : B * (X + c' * P) = B * (Y * q + v / B) := by rw [H]
  rw [Nat.mul_add, Nat.mul_add] at h2
  rw [Nat.add_mul, Nat.mul_assoc, show c' * (P * B) = B * (c' * P) by rw [← Nat.mul_assoc, Nat.mul_comm]]
  omega
theorem pa_div {B q r t v X Y P r' : Nat} (hv : v = r * B + t) (H : X * q + r' = Y + v % q * P) : (X + v / q * P) * q + r' = Y + t * P + r * (P * B) := by
  have h := Nat.div_add_mod v q
  have h2 : (q * (v / q) + v % q) * P = (r * B + t) * P := by rw [h, hv]
  rw [Nat.add_mul, Nat.add_mul] at h2
  rw [Nat.add_mul, show v / q * P * q = q * (v / q) * P by rw [Nat.mul_comm, Nat.mul_assoc], show r * (P * B) = r * B * P by rw [Nat.mul_assoc, Nat.mul_comm P B]]
  omega
theorem pa_mac {B t y z cr v X Z Y P c' : Nat} (hv : v = t * y + z + cr) (H : X + c' * P = Z + t * Y + v / B) : (v % B + B * X) + c' * (P * B) = (z + B * Z) + t * (y + B * Y) + cr := by
  have h := Nat.div_add_mod v B
  have h2 : B * (X + c' * P) = B * (Z + t * Y + v / B) := by rw [H]
  rw [Nat.mul_add, Nat.mul_add, Nat.mul_add] at h2
  rw [Nat.mul_add, show c' * (P * B) = B * (c' * P) by rw [← Nat.mul_assoc, Nat.mul_comm], show t * (B * Y) = B * (t * Y) by rw [Nat.mul_left_comm]]
  omega
theorem ni_pl {a : Nat} (h : a < 2 ^ 30) : nI a + (-1) < nI a := by
  rcases Nat.eq_zero_or_pos a with z | z
  · subst z; decide
  · obtain ⟨b, rfl⟩ : ∃ b, a = b + 1 := ⟨a - 1, by omega⟩
    rw [pk_m1]; exact nI_lt (by omega) (by omega)
theorem ni_s1 (x : Int32) : x - 1 = x + (-1) := Int32.sub_eq_add_neg x 1
theorem p4_ (k : Nat) : 10000 ^ (k / 4) * 10 ^ (k % 4) = 10 ^ k := by
  rw [show (10000 : Nat) = 10 ^ 4 by decide, ← Nat.pow_mul, ← Nat.pow_add, Nat.div_add_mod]
section
variable {fS fC fA fP fW fE fN fT : Int32} {aL aG aC aT aO aR aA aK aH aB aW : Nat → Int32}
variable {post : SX → Prop} {pr : Int32 → SX → Prop} {pi : Int32 → Prop}
theorem xm_l {a n q : Nat} (h : a + n ≤ 240) (hq : q ≤ 10000) : ∀ (m k c : Nat) (d : Nat → Nat), bd_ d → k + m = n → c < q →
    (∀ d' c', bd_ d' → dl_v 10000 d' (a + k) m + c' * 10000 ^ m = dl_v 10000 d (a + k) m * q + c → fr_ d d' (a + k) (a + n) → post (fS, fC, fA, fP, fW, fE, fN, fT, aL, aG, aC, aT, aO, aR, aA, aK, aH, aB, dn_A d')) →
    wX_scaleLimbs_6 post (nI a) (nI n) (nI q) fS fC fA fP fW fE fN fT (m + 1) (nI c) (nI (a + k)) aL aG aC aT aO aR aA aK aH aB (dn_A d)
  | 0, k, c, d, hB, hi, hc, K => pk_le (a + n) (a + k) (fun _ => K d c hB (by simp only [dl_0]; omega) fr_r) (fun z => by omega) (nI_add _ _)
  | m + 1, k, c, d, hB, hi, hc, K => by
    have ht := hB (a + k)
    have hv : d (a + k) * q + c < 10000 * q := by
      have := Nat.mul_le_mul_right q (show d (a + k) + 1 ≤ 10000 from ht)
      rw [Nat.add_mul, Nat.one_mul] at this
      omega
    generalize ev : d (a + k) * q + c = v at hv
    refine pk_le (a + n) (a + k) (fun z => by omega) (fun _ => ⟨pk_in (a + k) 240 (by omega), nm_r (e' := nI v) (by rw [dn_rd (a + k) rfl (by omega), pk_mul, nI_add, ev])
      ⟨by decide, pk_in (a + k) 240 (by omega), nm_r (dn_st (a + k) (v % 10000) rfl (pk_rem (d := 10000) (by omega) (by decide) (by decide)) (by omega))
      ⟨by decide, nm_r (pk_div (d := 10000) (by omega) (by decide) (by decide)) (nm_r (nI_1 (a + k)) (xm_l h hq m (k + 1) (v / 10000) _ (bd_u hB (Nat.mod_lt _ (by decide))) (by omega) (by omega) (fun d' c' b' e' f' => K d' c' b' ?_ (fr_k f' (by omega) (by omega) (by omega) (by omega)))))⟩⟩⟩) (nI_add _ _)
    rw [dl_low, dl_low, Nat.pow_succ, f' (a + k) (by omega), dn_us]
    refine pa_mul ev.symm ?_
    rw [dl_u (by omega)] at e'
    exact e'
theorem x_scale {d : Nat → Nat} (hB : bd_ d) (a n q : Nat) (h : a + n ≤ 240) (hq : q ≤ 10000) (h0 : 0 < q) (ho : dl_v 10000 d a n * q < 10000 ^ n)
    (K : ∀ d', bd_ d' → dl_v 10000 d' a n = dl_v 10000 d a n * q → fr_ d d' a (a + n) → post (fS, fC, fA, fP, fW, fE, fN, fT, aL, aG, aC, aT, aO, aR, aA, aK, aH, aB, dn_A d')) :
    wpX_scaleLimbs post (fS, fC, fA, fP, fW, fE, fN, fT, aL, aG, aC, aT, aO, aR, aA, aK, aH, aB, dn_A d) (nI a) (nI n) (nI q) :=
  ⟨n + 1, xm_l h hq n 0 0 d hB (by omega) h0 (fun d' c' b' e' f' => K d' b' (by
    have hc : c' = 0 := by
      rcases Nat.eq_zero_or_pos c' with z | z
      · exact z
      · have := Nat.le_mul_of_pos_left (10000 ^ n) z
        rw [Nat.add_zero, Nat.add_zero] at e'
        omega
    subst hc
    rw [Nat.zero_mul] at e'
    exact e') f')⟩
theorem xc_l {a n q : Nat} (h : a + n ≤ 240) (hq : q ≤ 10000) : ∀ (i r : Nat) (d : Nat → Nat), bd_ d → i ≤ n → r < q →
    (∀ d' r', bd_ d' → r' < q → dl_v 10000 d' a i * q + r' = dl_v 10000 d a i + r * 10000 ^ i → fr_ d d' a (a + i) → pr (nI r') (fS, fC, fA, fP, fW, fE, fN, fT, aL, aG, aC, aT, aO, aR, aA, aK, aH, aB, dn_A d')) →
    wX_cutLimbs_10 pr (nI a) (nI q) fS fC fA fP fW fE fN fT (i + 1) (nI r) (nI (a + i) + (-1)) aL aG aC aT aO aR aA aK aH aB (dn_A d)
  | 0, r, d, hB, hi, hr, K => br_t (ni_pl (by omega)) (K d r hB hr (by simp only [dl_0]; omega) fr_r)
  | i + 1, r, d, hB, hi, hr, K => by
    rw [show nI (a + (i + 1)) + (-1) = nI (a + i) from pk_m1 (a + i)]
    have ht := hB (a + i)
    have hv : r * 10000 + d (a + i) < q * 10000 := by omega
    generalize ev : r * 10000 + d (a + i) = v at hv
    have hn : ¬ nI q = 0 := nI_ne0 (by omega) (by omega)
    have hd : v / q < 10000 := Nat.div_lt_of_lt_mul hv
    refine pk_lt (a + i) a (fun z => by omega) (fun _ => ⟨pk_in (a + i) 240 (by omega), nm_r (e' := nI v) (by rw [dn_rd (a + i) rfl (by omega), ← ev, ← ni_ma]; rfl)
      ⟨hn, pk_in (a + i) 240 (by omega), nm_r (dn_st (a + i) (v / q) rfl (pk_div (by omega) (by omega) (by omega)) (by omega))
      ⟨hn, nm_r (pk_rem (by omega) (by omega) (by omega)) (nm_e (xc_l h hq i (v % q) _ (bd_u hB hd) (by omega) (Nat.mod_lt _ (by omega)) (fun d' r' b' l' e' f' => K d' r' b' l' ?_ (fr_k f' (by omega) (by omega) (by omega) (by omega)))))⟩⟩⟩)
    rw [dl_s, dl_s, Nat.pow_succ, f' (a + i) (by omega), dn_us]
    refine pa_div ev.symm ?_
    rw [dl_u (by omega)] at e'
    exact e'
/-- divided by a small number, cut; the rest -/
theorem x_cut {d : Nat → Nat} (hB : bd_ d) (a n q : Nat) (h : a + n ≤ 240) (hq : q ≤ 10000) (h0 : 0 < q)
    (K : ∀ d', bd_ d' → dl_v 10000 d' a n = dl_v 10000 d a n / q → fr_ d d' a (a + n) → pr (nI (dl_v 10000 d a n % q)) (fS, fC, fA, fP, fW, fE, fN, fT, aL, aG, aC, aT, aO, aR, aA, aK, aH, aB, dn_A d')) :
    wpX_cutLimbs pr (fS, fC, fA, fP, fW, fE, fN, fT, aL, aG, aC, aT, aO, aR, aA, aK, aH, aB, dn_A d) (nI a) (nI n) (nI q) :=
  nm_r (e' := nI (a + n) + (-1)) (by rw [nI_add, ni_s1]) ⟨n + 1, xc_l h hq n 0 d hB (Nat.le_refl _) h0 (fun d' r' b' l' e' f' => by
    rw [Nat.zero_mul, Nat.add_zero] at e'
    have e1 : dl_v 10000 d a n / q = dl_v 10000 d' a n := by
      rw [← e', Nat.mul_comm, Nat.mul_add_div h0, Nat.div_eq_of_lt l', Nat.add_zero]
    have e2 : dl_v 10000 d a n % q = r' := by
      rw [← e', Nat.mul_comm, Nat.mul_add_mod, Nat.mod_eq_of_lt l']
    have := K d' b' e1.symm f'
    rw [e2] at this
    exact this)⟩
end
end
section
section
variable {fS fC fA fP fW fE fN fT : Int32} {aL aG aC aT aO aR aA aK aH aB aW : Nat → Int32}
variable {post : SX → Prop} {pr : Int32 → SX → Prop} {pi : Int32 → Prop}
theorem xu_l {a f q : Nat} (h : a + 32 ≤ 240) (hf : f < 1000) : ∀ (i : Nat) (d : Nat → Nat), bd_ d → i ≤ 32 →
    (∀ d', bd_ d' → (∀ k, k < i → d' (a + k) = if f ≤ k then d (a + k - f) else 0) → fr_ d d' a (a + i) → wpX_scaleLimbs post (fS, fC, fA, fP, fW, fE, fN, fT, aL, aG, aC, aT, aO, aR, aA, aK, aH, aB, dn_A d') (nI a) 32 (nI q)) →
    wX_up_16 post (nI a) (nI f) (nI q) fS fC fA fP fW fE fN fT (i + 1) (nI i + (-1)) aL aG aC aT aO aR aA aK aH aB (dn_A d)
  | 0, d, hB, hi, K => br_t (by decide) (K d hB (fun k hk => by omega) fr_r)
  | i + 1, d, hB, hi, K => by
    rw [pk_m1]
    refine br_f (nI_pos (by omega)) (pk_lt i f (fun z => ⟨pk_in (a + i) 240 (by omega) (nI_add _ _), nm_r (dn_st (a + i) 0 (nI_add _ _) rfl (by omega)) (nm_e (xu_l h hf i _ (bd_u hB (by decide)) (by omega) (fun d' b' e' f' => K d' b' (fun k hk => ?_) (fr_k f' (by omega) (by omega) (by omega) (by omega)))))⟩)
      (fun z => ⟨pk_in (a + i - f) 240 (by omega) (by rw [nI_add, pk_sub (by omega)]), pk_in (a + i) 240 (by omega) (nI_add _ _), nm_r (dn_st (a + i) (d (a + i - f)) (nI_add _ _) (dn_rd _ (by rw [nI_add, pk_sub (by omega)]) (by omega)) (by omega)) (nm_e (xu_l h hf i _ (bd_u hB (hB _)) (by omega) (fun d' b' e' f' => K d' b' (fun k hk => ?_) (fr_k f' (by omega) (by omega) (by omega) (by omega)))))⟩))
    · rcases Nat.lt_or_ge k i with q | q
      · rw [e' k q]
        by_cases hh : f ≤ k
        · rw [if_pos hh, if_pos hh, dn_un (by omega)]
        · rw [if_neg hh, if_neg hh]
      · rw [show k = i by omega, f' (a + i) (by omega), dn_us, if_neg (by omega)]
    · rcases Nat.lt_or_ge k i with q | q
      · rw [e' k q]
        by_cases hh : f ≤ k
        · rw [if_pos hh, if_pos hh, dn_un (by omega)]
        · rw [if_neg hh, if_neg hh]
      · rw [show k = i by omega, f' (a + i) (by omega), dn_us, if_pos z]
theorem x_up {d : Nat → Nat} (hB : bd_ d) (a k : Nat) (h : a + 32 ≤ 240) (hk : k < 100) (ho : dl_v 10000 d a 32 * 10 ^ k < 10000 ^ 32)
    (K : ∀ d', bd_ d' → dl_v 10000 d' a 32 = dl_v 10000 d a 32 * 10 ^ k → fr_ d d' a (a + 32) → post (fS, fC, fA, fP, fW, fE, fN, fT, aL, aG, aC, aT, aO, aR, aA, aK, aH, aB, dn_A d')) :
    wpX_up post (fS, fC, fA, fP, fW, fE, fN, fT, aL, aG, aC, aT, aO, aR, aA, aK, aH, aB, dn_A d) (nI a) (nI k) := by
  have hp : 0 < 10 ^ (k % 4) := Nat.pow_pos (by decide)
  have hq : 10 ^ (k % 4) ≤ 10000 := by
    have : k % 4 = 0 ∨ k % 4 = 1 ∨ k % 4 = 2 ∨ k % 4 = 3 := by omega
    rcases this with e | e | e | e <;> rw [e] <;> decide
  have hs : dl_v 10000 d a 32 * 10000 ^ (k / 4) < 10000 ^ 32 := by
    rw [← p4_ k, ← Nat.mul_assoc] at ho
    exact Nat.lt_of_le_of_lt (Nat.le_mul_of_pos_right _ hp) ho
  unfold wpX_up
  refine nm_r (e' := nI (k / 4)) (pk_shrN (by omega) _ 2 (by decide)) ?_
  rw [show nI k &&& 3 = nI (k % 4) from pk_andN (by omega) 2 (by decide)]
  refine x_ten (k % 4) (Nat.mod_lt _ (by decide)) ⟨33, ?_⟩
  refine xu_l (a := a) (f := k / 4) (q := 10 ^ (k % 4)) h (by omega) 32 d hB (Nat.le_refl _) (fun d1 b1 e1 f1 => ?_)
  have v1 : dl_v 10000 d1 a 32 = dl_v 10000 d a 32 * 10000 ^ (k / 4) := by
    obtain ⟨g, hg⟩ : ∃ g, 32 = k / 4 + g := ⟨32 - k / 4, by omega⟩
    have hlt : dl_v 10000 d a 32 < 10000 ^ g := by
      rw [hg, Nat.pow_add, Nat.mul_comm] at hs
      rw [hg]
      exact Nat.lt_of_mul_lt_mul_left hs
    have c1 := dl_cut (B := 10000) (d := d) (a := a) (n := 32) (m := g) (by decide) (by omega) hlt
    have c2 : dl_v 10000 d1 a 32 = dl_v 10000 d1 a (k / 4 + g) := by rw [← hg]
    rw [c2, dl_app, dl_z (fun j hj => by rw [e1 j (by omega), if_neg (by omega)]), Nat.zero_add, c1, Nat.mul_comm]
    refine congrArg (· * 10000 ^ (k / 4)) (dl_congr (fun j hj => ?_))
    rw [Nat.add_assoc, e1 (k / 4 + j) (by omega), if_pos (by omega), show a + (k / 4 + j) - k / 4 = a + j by omega]
  refine x_scale b1 a 32 (10 ^ (k % 4)) h hq hp (by rw [v1, Nat.mul_assoc, p4_]; exact ho) (fun d2 b2 e2 f2 => K d2 b2 ?_ (fr_t f1 f2 (by omega) (by omega) (by omega) (by omega)))
  rw [e2, v1, Nat.mul_assoc, p4_]
theorem xd_l {a n f k : Nat} (h : a + n ≤ 240) (hf : f < 1000) : ∀ (m i : Nat) (d : Nat → Nat), bd_ d → i + m = n →
    (∀ d', bd_ d' → (∀ j, i ≤ j → j < n → d' (a + j) = if j + f < n then d (a + j + f) else 0) → fr_ d d' (a + i) (a + n) →
      wpX_ten (fun r => wpX_cutLimbs (fun _ u => post u) (fS, fC, fA, fP, fW, fE, fN, fT, aL, aG, aC, aT, aO, aR, aA, aK, aH, aB, dn_A d') (nI a) (nI n) r) (nI k &&& 3)) →
    wX_downBy_8 post (nI a) (nI n) (nI k) (nI f) fS fC fA fP fW fE fN fT (m + 1) (nI i) aL aG aC aT aO aR aA aK aH aB (dn_A d)
  | 0, i, d, hB, hi, K => pk_le n i (fun _ => K d hB (fun j _ _ => by omega) fr_r) (fun z => by omega)
  | m + 1, i, d, hB, hi, K => by
    refine pk_le n i (fun z => by omega) (fun _ => pk_le n (i + f) (fun z => ⟨pk_in (a + i) 240 (by omega) (nI_add _ _), nm_r (dn_st (a + i) 0 (nI_add _ _) rfl (by omega)) (nm_r (nI_1 i) (xd_l h hf m (i + 1) _ (bd_u hB (by decide)) (by omega) (fun d' b' e' f' => K d' b' (fun j g1 g2 => ?_) (fr_k f' (by omega) (by omega) (by omega) (by omega)))))⟩)
      (fun z => ⟨pk_in (a + i + f) 240 (by omega) (ni_3 _ _ _), pk_in (a + i) 240 (by omega) (nI_add _ _), nm_r (dn_st (a + i) (d (a + i + f)) (nI_add _ _) (dn_rd _ (ni_3 _ _ _) (by omega)) (by omega)) (nm_r (nI_1 i) (xd_l h hf m (i + 1) _ (bd_u hB (hB _)) (by omega) (fun d' b' e' f' => K d' b' (fun j g1 g2 => ?_) (fr_k f' (by omega) (by omega) (by omega) (by omega)))))⟩) rfl (nI_add _ _))
    · rcases Nat.eq_or_lt_of_le g1 with q | q
      · subst q
        rw [f' (a + i) (by omega), dn_us, if_neg (by omega)]
      · rw [e' j q g2, dn_un (by omega)]
    · rcases Nat.eq_or_lt_of_le g1 with q | q
      · subst q
        rw [f' (a + i) (by omega), dn_us, if_pos z]
      · rw [e' j q g2, dn_un (by omega)]
theorem x_down {d : Nat → Nat} (hB : bd_ d) (a n k : Nat) (h : a + n ≤ 240) (hk : k < 1000)
    (K : ∀ d', bd_ d' → dl_v 10000 d' a n = dl_v 10000 d a n / 10 ^ k → fr_ d d' a (a + n) → post (fS, fC, fA, fP, fW, fE, fN, fT, aL, aG, aC, aT, aO, aR, aA, aK, aH, aB, dn_A d')) :
    wpX_downBy post (fS, fC, fA, fP, fW, fE, fN, fT, aL, aG, aC, aT, aO, aR, aA, aK, aH, aB, dn_A d) (nI a) (nI n) (nI k) := by
  have hp : 0 < 10 ^ (k % 4) := Nat.pow_pos (by decide)
  have hq : 10 ^ (k % 4) ≤ 10000 := by
    have : k % 4 = 0 ∨ k % 4 = 1 ∨ k % 4 = 2 ∨ k % 4 = 3 := by omega
    rcases this with e | e | e | e <;> rw [e] <;> decide
  unfold wpX_downBy
  refine nm_r (e' := nI (k / 4)) (pk_shrN (by omega) _ 2 (by decide)) ⟨n + 1, ?_⟩
  refine xd_l (a := a) (n := n) (f := k / 4) (k := k) h (by omega) n 0 d hB (by omega) (fun d1 b1 e1 f1 => ?_)
  have v1 : dl_v 10000 d1 a n = dl_v 10000 d a n / 10000 ^ (k / 4) := by
    have hp4 : 0 < 10000 ^ (k / 4) := Nat.pow_pos (by decide)
    rcases Nat.lt_or_ge (k / 4) n with z | z
    · obtain ⟨g, hg⟩ : ∃ g, n = k / 4 + g := ⟨n - k / 4, by omega⟩
      have c2 : dl_v 10000 d1 a n = dl_v 10000 d1 a g := dl_ext (by omega) (fun j g1 g2 => by rw [e1 j (by omega) g2, if_neg (by omega)])
      have c3 : dl_v 10000 d a n = dl_v 10000 d a (k / 4 + g) := by rw [← hg]
      rw [c2, c3, dl_app, Nat.add_mul_div_left _ _ hp4, Nat.div_eq_of_lt (dl_lt (fun j _ => b_of hB)), Nat.zero_add]
      refine dl_congr (fun j hj => ?_)
      rw [e1 j (by omega) (by omega), if_pos (by omega), show a + j + k / 4 = a + k / 4 + j by omega]
    · rw [dl_z (fun j hj => by rw [e1 j (by omega) hj, if_neg (by omega)]), Nat.div_eq_of_lt]
      exact Nat.lt_of_lt_of_le (dl_lt (fun j _ => b_of hB)) (Nat.pow_le_pow_right (by decide) z)
  rw [show nI k &&& 3 = nI (k % 4) from pk_andN (by omega) 2 (by decide)]
  refine x_ten (k % 4) (Nat.mod_lt _ (by decide)) ?_
  refine x_cut b1 a n (10 ^ (k % 4)) h hq hp (fun d2 b2 e2 f2 => K d2 b2 ?_ (fr_t f1 f2 (by omega) (by omega) (by omega) (by omega)))
  rw [e2, v1, Nat.div_div_eq_div_mul, p4_]
end
end
section
/-! order, sum, difference -/
def cm_ (x y : Nat) : Int32 := if x < y then -1 else if y < x then 1 else 0
theorem cm_lt {x y : Nat} (h : x < y) : cm_ x y = -1 := if_pos h
theorem cm_gt {x y : Nat} (h : y < x) : cm_ x y = 1 := by unfold cm_; rw [if_neg (by omega), if_pos h]
theorem cm_eq {x y : Nat} (h : x = y) : cm_ x y = 0 := by unfold cm_; rw [if_neg (by omega), if_neg (by omega)]
section
variable {fS fC fA fP fW fE fN fT : Int32} {aL aG aC aT aO aR aA aK aH aB aW : Nat → Int32}
variable {post : SX → Prop} {pr : Int32 → SX → Prop} {pi : Int32 → Prop}
theorem xo_32 {a b k : Nat} {d : Nat → Nat} (hB : bd_ d) (ha : a + 32 ≤ 240) (hb : b + 32 ≤ 240) (hk : k < 32) (hu : ∀ j, k < j → j < 32 → d (a + j) = d (b + j)) (hz : k = 0 ∨ d (a + k) ≠ d (b + k))
    (K : pi (cm_ (dl_v 10000 d a 32) (dl_v 10000 d b 32))) : wX_order_32 pi (nI a) (nI b) (nI k) fS fC fA fP fW fE fN fT aL aG aC aT aO aR aA aK aH aB (dn_A d) := by
  have h1 := hB (a + k)
  have h2 := hB (b + k)
  have ia : vp_in (nI a + nI k) 240 := pk_in (a + k) 240 (by omega) (nI_add _ _)
  have ib : vp_in (nI b + nI k) 240 := pk_in (b + k) 240 (by omega) (nI_add _ _)
  have ra : dn_A d (nI a + nI k).toNatClampNeg = nI (d (a + k)) := dn_rd _ (nI_add _ _) (by omega)
  have rb : dn_A d (nI b + nI k).toNatClampNeg = nI (d (b + k)) := dn_rd _ (nI_add _ _) (by omega)
  refine ⟨ia, ib, pk_le (d (b + k)) (d (a + k)) (fun z => ⟨ia, ib, pk_le (d (a + k)) (d (b + k)) (fun y => ?_) (fun y => ?_) ra rb⟩) (fun z => ?_) rb ra⟩
  · rw [cm_eq (dl_congr (fun j hj => ?_))] at K
    · exact K
    · rcases Nat.eq_zero_or_pos j with q | q
      · rcases hz with e | e
        · subst e; subst q; omega
        · omega
      · rcases Nat.lt_or_ge k j with w | w
        · exact hu j w hj
        · rcases hz with e | e
          · omega
          · omega
  · rw [cm_gt (dl_lex hk (fun j _ => b_of hB) (fun j _ => b_of hB) (fun j g1 g2 => (hu j g1 g2).symm) y)] at K
    exact K
  · rw [cm_lt (dl_lex hk (fun j _ => b_of hB) (fun j _ => b_of hB) (fun j g1 g2 => hu j g1 g2) z)] at K
    exact K
theorem xo_l {a b : Nat} {d : Nat → Nat} (hB : bd_ d) (ha : a + 32 ≤ 240) (hb : b + 32 ≤ 240)
    (K : pi (cm_ (dl_v 10000 d a 32) (dl_v 10000 d b 32))) : ∀ k : Nat, k < 32 → (∀ j, k < j → j < 32 → d (a + j) = d (b + j)) →
    wX_order_3 pi (nI a) (nI b) fS fC fA fP fW fE fN fT aL aG aC aT aO aR aA aK aH aB (dn_A d) (k + 1) (nI k)
  | 0, hk, hu => pk_le 0 0 (fun _ => xo_32 hB ha hb hk hu (Or.inl rfl) K) (fun z => by omega)
  | k + 1, hk, hu => pk_le (k + 1) 0 (fun z => by omega) (fun _ => ⟨pk_in (a + (k + 1)) 240 (by omega) (nI_add _ _), pk_in (b + (k + 1)) 240 (by omega) (nI_add _ _),
      pk_eq (d (a + (k + 1))) (d (b + (k + 1))) (fun z => nm_r (pk_m1 k) (xo_l hB ha hb K k (by omega) (fun j g1 g2 => by
        rcases Nat.eq_or_lt_of_le (show k + 1 ≤ j from g1) with q | q
        · rw [← q]; exact z
        · exact hu j q g2)))
        (fun z => xo_32 hB ha hb hk hu (Or.inr z) K) (dn_rd _ (nI_add _ _) (by omega)) (dn_rd _ (nI_add _ _) (by omega)) (by have := hB (a + (k + 1)); omega) (by have := hB (b + (k + 1)); omega)⟩)
theorem x_order {d : Nat → Nat} (hB : bd_ d) (a b : Nat) (ha : a + 32 ≤ 240) (hb : b + 32 ≤ 240) (K : pi (cm_ (dl_v 10000 d a 32) (dl_v 10000 d b 32))) :
    wpX_order pi (fS, fC, fA, fP, fW, fE, fN, fT, aL, aG, aC, aT, aO, aR, aA, aK, aH, aB, dn_A d) (nI a) (nI b) :=
  ⟨32, xo_l hB ha hb K 31 (by decide) (fun j _ _ => by omega)⟩
/-- the limb of a run of n at k, 0 beyond it -/
def lb_ (d : Nat → Nat) (b n k : Nat) : Nat := if k < n then d (b + k) else 0
theorem lb_s {B : Nat} {d : Nat → Nat} {b n k : Nat} : dl_v B d (b + k) (n - k) = lb_ d b n k + B * dl_v B d (b + (k + 1)) (n - (k + 1)) := by
  unfold lb_
  by_cases h : k < n
  · rw [if_pos h, show n - k = n - (k + 1) + 1 by omega, dl_low]; rfl
  · rw [if_neg h, show n - k = 0 by omega, show n - (k + 1) = 0 by omega, dl_0, dl_0, Nat.mul_zero]
theorem lb_b {d : Nat → Nat} {b n k : Nat} (hB : bd_ d) : lb_ d b n k < 10000 := by
  unfold lb_
  by_cases h : k < n
  · rw [if_pos h]; exact hB _
  · rw [if_neg h]; decide
theorem xp_48 {J : Int32 → Int32 → (Nat → Int32) → (Nat → Int32) → (Nat → Int32) → (Nat → Int32) → (Nat → Int32) → (Nat → Int32) → (Nat → Int32) → (Nat → Int32) → (Nat → Int32) → (Nat → Int32) → (Nat → Int32) → Prop}
    {a b n k x y v : Nat} {d : Nat → Nat} (hi : a + k < 240) (hv : x + y = v) (h2 : v < 20000)
    (K : J (nI (v / 10000)) (nI (k + 1)) aL aG aC aT aO aR aA aK aH aB (dn_A (dn_u d (a + k) (v % 10000)))) :
    wX_plus_48 post J (nI a) (nI b) (nI n) (nI k) (nI y) (nI x) fS fC fA fP fW fE fN fT aL aG aC aT aO aR aA aK aH aB (dn_A d) := by
  refine nm_r (e' := nI v) (by rw [nI_add, hv]) (pk_lt v 10000 (fun z => ?_) (fun z => ?_))
  · refine ⟨pk_in (a + k) 240 hi (nI_add _ _), nm_r (dn_st (a + k) (v % 10000) (nI_add _ _) ?_ (by omega)) (nm_r (nI_1 k) ?_)⟩
    · rw [show (0 : Int32) * 10000 = nI 0 by decide, pk_sub (by omega)]; exact congrArg nI (by omega)
    · rw [show v / 10000 = 0 by omega] at K; exact K
  · refine ⟨pk_in (a + k) 240 hi (nI_add _ _), nm_r (dn_st (a + k) (v % 10000) (nI_add _ _) ?_ (by omega)) (nm_r (nI_1 k) ?_)⟩
    · rw [show (1 : Int32) * 10000 = nI 10000 by decide, pk_sub (by omega)]; exact congrArg nI (by omega)
    · rw [show v / 10000 = 1 by omega] at K; exact K
theorem xp_17 {J : Int32 → Int32 → (Nat → Int32) → (Nat → Int32) → (Nat → Int32) → (Nat → Int32) → (Nat → Int32) → (Nat → Int32) → (Nat → Int32) → (Nat → Int32) → (Nat → Int32) → (Nat → Int32) → (Nat → Int32) → Prop}
    {a b n k c v : Nat} {d : Nat → Nat} (hB : bd_ d) (hi : a + k < 240) (hn : b + n ≤ 240) (hc : c ≤ 1) (hv : d (a + k) + c + lb_ d b n k = v)
    (K : J (nI (v / 10000)) (nI (k + 1)) aL aG aC aT aO aR aA aK aH aB (dn_A (dn_u d (a + k) (v % 10000)))) :
    wX_plus_17 post J (nI a) (nI b) (nI n) (nI c) (nI k) fS fC fA fP fW fE fN fT aL aG aC aT aO aR aA aK aH aB (dn_A d) := by
  have h1 := hB (a + k)
  have h2 := lb_b (b := b) (n := n) (k := k) hB
  refine ⟨pk_in (a + k) 240 hi (nI_add _ _), ?_⟩
  rw [dn_rd (a + k) (nI_add _ _) (by omega), nI_add]
  refine pk_le n k (fun z => ?_) (fun z => ⟨pk_in (b + k) 240 (by omega) (nI_add _ _), ?_⟩)
  · refine xp_48 (y := 0) hi ?_ (by omega) K
    rw [← hv]; unfold lb_; rw [if_neg (by omega)]
  · rw [dn_rd (b + k) (nI_add _ _) (by omega)]
    refine xp_48 hi ?_ (by omega) K
    rw [← hv]; unfold lb_; rw [if_pos z]
theorem xp_l {a b n m : Nat} (ha : a + m ≤ 240) (hn : b + n ≤ 240) (hm : n ≤ m) (hd : a + m ≤ b ∨ b + n ≤ a) : ∀ (r k c : Nat) (d : Nat → Nat), bd_ d → k + r = m → c ≤ 1 →
    dl_v 10000 d (a + k) r + dl_v 10000 d (b + k) (n - k) + c < 10000 ^ r →
    (∀ d', bd_ d' → dl_v 10000 d' (a + k) r = dl_v 10000 d (a + k) r + dl_v 10000 d (b + k) (n - k) + c → fr_ d d' (a + k) (a + m) → post (fS, fC, fA, fP, fW, fE, fN, fT, aL, aG, aC, aT, aO, aR, aA, aK, aH, aB, dn_A d')) →
    wX_plus_6 post (nI a) (nI b) (nI n) fS fC fA fP fW fE fN fT (r + 1) (nI c) (nI k) aL aG aC aT aO aR aA aK aH aB (dn_A d)
  | 0, k, c, d, hB, hk, hc, ho, K => by
    rw [show n - k = 0 by omega, dl_0, dl_0] at ho
    have c0 : c = 0 := by omega
    subst c0
    refine pk_lt k n (fun z => by omega) (fun _ => pk_le 0 0 (fun _ => K d hB ?_ fr_r) (fun z => by omega))
    rw [show n - k = 0 by omega, dl_0, dl_0]
  | r + 1, k, c, d, hB, hk, hc, ho, K => by
    have h1 := hB (a + k)
    have h2 := lb_b (b := b) (n := n) (k := k) hB
    generalize ev : d (a + k) + c + lb_ d b n k = v
    have go : wX_plus_17 post (wX_plus_6 post (nI a) (nI b) (nI n) fS fC fA fP fW fE fN fT (r + 1)) (nI a) (nI b) (nI n) (nI c) (nI k) fS fC fA fP fW fE fN fT aL aG aC aT aO aR aA aK aH aB (dn_A d) := by
      refine xp_17 hB (by omega) hn hc ev (xp_l ha hn hm hd r (k + 1) (v / 10000) _ (bd_u hB (Nat.mod_lt _ (by decide))) (by omega) (by omega) ?_ (fun d' b' e' f' => K d' b' ?_ (fr_k f' (by omega) (by omega) (by omega) (by omega))))
      · rw [dl_low, lb_s, Nat.pow_succ] at ho
        rw [dl_u (by omega), dl_u (by omega)]
        rw [show a + (k + 1) = a + k + 1 from rfl]
        generalize 10000 ^ r = P at ho
        omega
      · rw [dl_low, dl_low, lb_s, f' (a + k) (by omega), dn_us]
        rw [dl_u (by omega), dl_u (by omega)] at e'
        rw [show a + (k + 1) = a + k + 1 from rfl] at e'
        omega
    refine pk_lt k n (fun _ => go) (fun z => pk_le c 0 (fun y => K d hB ?_ fr_r) (fun _ => go))
    rw [show n - k = 0 by omega, dl_0]; omega
/-- n limbs from b on are added to the m from a on -/
theorem x_plus {d : Nat → Nat} (hB : bd_ d) (a b n m : Nat) (ha : a + m ≤ 240) (hn : b + n ≤ 240) (hm : n ≤ m) (hd : a + m ≤ b ∨ b + n ≤ a) (ho : dl_v 10000 d a m + dl_v 10000 d b n < 10000 ^ m)
    (K : ∀ d', bd_ d' → dl_v 10000 d' a m = dl_v 10000 d a m + dl_v 10000 d b n → fr_ d d' a (a + m) → post (fS, fC, fA, fP, fW, fE, fN, fT, aL, aG, aC, aT, aO, aR, aA, aK, aH, aB, dn_A d')) :
    wpX_plus post (fS, fC, fA, fP, fW, fE, fN, fT, aL, aG, aC, aT, aO, aR, aA, aK, aH, aB, dn_A d) (nI a) (nI b) (nI n) :=
  ⟨m + 1, xp_l ha hn hm hd m 0 0 d hB (by omega) (by decide) ho (fun d' b' e' f' => K d' b' e' f')⟩
end
end
section
/-! difference, product -/
section
variable {fS fC fA fP fW fE fN fT : Int32} {aL aG aC aT aO aR aA aK aH aB aW : Nat → Int32}
variable {post : SX → Prop} {pr : Int32 → SX → Prop} {pi : Int32 → Prop}
theorem ni_sn {x y : Nat} (hx : x < 2 ^ 20) (hy : y < 2 ^ 20) (h : x < y) : ¬ (0 : Int32) ≤ nI x - nI y := by
  rw [Int32.le_iff_toInt_le, pk_sub_toInt (by omega) (by omega), show (0 : Int32).toInt = 0 by decide]
  omega
theorem ni_sb (x y z : Nat) (h : y ≤ x + z) : nI x - nI y + nI z = nI (x + z - y) := by
  rw [← pk_sub h, ← nI_add, Int32.sub_eq_add_neg, Int32.sub_eq_add_neg, Int32.add_assoc, Int32.add_assoc, Int32.add_comm (-nI y)]
theorem xn_48 {J : Int32 → Int32 → (Nat → Int32) → (Nat → Int32) → (Nat → Int32) → (Nat → Int32) → (Nat → Int32) → (Nat → Int32) → (Nat → Int32) → (Nat → Int32) → (Nat → Int32) → (Nat → Int32) → (Nat → Int32) → Prop}
    {a b n k x y t c1 : Nat} {z : Int32} {d : Nat → Nat} (hi : a + k < 240) (hx : x < 10000) (hy : y ≤ 10000) (hz : z = nI x - nI y) (h1 : c1 = if x < y then 1 else 0) (h2 : t + y = x + 10000 * c1)
    (K : J (nI c1) (nI (k + 1)) aL aG aC aT aO aR aA aK aH aB (dn_A (dn_u d (a + k) t))) :
    ∀ x6 : Int32, x6 = z → ((0 ≤ x6 → wX_minus_61 post J (nI a) (nI b) (nI n) (nI k) x6 0 fS fC fA fP fW fE fN fT aL aG aC aT aO aR aA aK aH aB (dn_A d)) ∧ (¬ 0 ≤ x6 → wX_minus_61 post J (nI a) (nI b) (nI n) (nI k) x6 1 fS fC fA fP fW fE fN fT aL aG aC aT aO aR aA aK aH aB (dn_A d))) := by
  subst hz
  refine nm_e ?_
  by_cases h : x < y
  · rw [if_pos h] at h1
    subst h1
    refine br_f (ni_sn (by omega) (by omega) h) ⟨pk_in (a + k) 240 hi (nI_add _ _), nm_r (dn_st (a + k) t (nI_add _ _) ?_ (by omega)) (nm_r (nI_1 k) K)⟩
    rw [show (1 : Int32) * 10000 = nI 10000 by decide, ni_sb x y 10000 (by omega)]; exact congrArg nI (by omega)
  · rw [if_neg h] at h1
    subst h1
    rw [pk_sub (by omega)]
    refine br_t (nI_pos' (by omega)) ⟨pk_in (a + k) 240 hi (nI_add _ _), nm_r (dn_st (a + k) t (nI_add _ _) ?_ (by omega)) (nm_r (nI_1 k) K)⟩
    rw [show (0 : Int32) * 10000 = nI 0 by decide, nI_add]; exact congrArg nI (by omega)
theorem ni_ss (x c y : Nat) : nI x - nI c - nI y = nI x - nI (c + y) := by
  rw [← nI_add, Int32.sub_eq_add_neg, Int32.sub_eq_add_neg, Int32.sub_eq_add_neg, Int32.neg_add, Int32.add_assoc, Int32.sub_eq_add_neg]
theorem xn_17 {J : Int32 → Int32 → (Nat → Int32) → (Nat → Int32) → (Nat → Int32) → (Nat → Int32) → (Nat → Int32) → (Nat → Int32) → (Nat → Int32) → (Nat → Int32) → (Nat → Int32) → (Nat → Int32) → (Nat → Int32) → Prop}
    {a b n k c t c1 : Nat} {d : Nat → Nat} (hB : bd_ d) (hi : a + k < 240) (hn : b + n ≤ 240) (hc : c ≤ 1) (h1 : c1 = if d (a + k) < c + lb_ d b n k then 1 else 0) (h2 : t + (c + lb_ d b n k) = d (a + k) + 10000 * c1)
    (K : J (nI c1) (nI (k + 1)) aL aG aC aT aO aR aA aK aH aB (dn_A (dn_u d (a + k) t))) :
    wX_minus_17 post J (nI a) (nI b) (nI n) (nI c) (nI k) fS fC fA fP fW fE fN fT aL aG aC aT aO aR aA aK aH aB (dn_A d) := by
  have g1 := hB (a + k)
  have g2 := lb_b (b := b) (n := n) (k := k) hB
  refine ⟨pk_in (a + k) 240 hi (nI_add _ _), ?_⟩
  rw [dn_rd (a + k) (nI_add _ _) (by omega)]
  refine pk_le n k (fun z => ?_) (fun z => ⟨pk_in (b + k) 240 (by omega) (nI_add _ _), ?_⟩)
  · refine xn_48 (x := d (a + k)) (y := c + lb_ d b n k) hi g1 (by omega) ?_ h1 h2 K
    rw [show (0 : Int32) = nI 0 from rfl, ni_ss]; unfold lb_; rw [if_neg (by omega)]
  · rw [dn_rd (b + k) (nI_add _ _) (by omega)]
    refine xn_48 (x := d (a + k)) (y := c + lb_ d b n k) hi g1 (by omega) ?_ h1 h2 K
    rw [ni_ss]; unfold lb_; rw [if_pos z]
theorem xn_l {a b n m : Nat} (ha : a + m ≤ 240) (hn : b + n ≤ 240) (hm : n ≤ m) (hd : a + m ≤ b ∨ b + n ≤ a) : ∀ (r k c : Nat) (d : Nat → Nat), bd_ d → k + r = m → c ≤ 1 →
    dl_v 10000 d (b + k) (n - k) + c ≤ dl_v 10000 d (a + k) r →
    (∀ d', bd_ d' → dl_v 10000 d' (a + k) r + dl_v 10000 d (b + k) (n - k) + c = dl_v 10000 d (a + k) r → fr_ d d' (a + k) (a + m) → post (fS, fC, fA, fP, fW, fE, fN, fT, aL, aG, aC, aT, aO, aR, aA, aK, aH, aB, dn_A d')) →
    wX_minus_6 post (nI a) (nI b) (nI n) fS fC fA fP fW fE fN fT (r + 1) (nI c) (nI k) aL aG aC aT aO aR aA aK aH aB (dn_A d)
  | 0, k, c, d, hB, hk, hc, ho, K => by
    rw [show n - k = 0 by omega, dl_0, dl_0] at ho
    have c0 : c = 0 := by omega
    subst c0
    refine pk_lt k n (fun z => by omega) (fun _ => pk_le 0 0 (fun _ => K d hB ?_ fr_r) (fun z => by omega))
    rw [show n - k = 0 by omega, dl_0, dl_0]
  | r + 1, k, c, d, hB, hk, hc, ho, K => by
    have h1 := hB (a + k)
    have h2 := lb_b (b := b) (n := n) (k := k) hB
    obtain ⟨c1, hc1⟩ : ∃ c1 : Nat, c1 = if d (a + k) < c + lb_ d b n k then 1 else 0 := ⟨_, rfl⟩
    have hc2 : c1 ≤ 1 ∧ c + lb_ d b n k ≤ d (a + k) + 10000 * c1 ∧ d (a + k) + 10000 * c1 - (c + lb_ d b n k) < 10000 := by
      rw [hc1]
      by_cases z : d (a + k) < c + lb_ d b n k
      · rw [if_pos z]; omega
      · rw [if_neg z]; omega
    obtain ⟨t, ht⟩ : ∃ t, t + (c + lb_ d b n k) = d (a + k) + 10000 * c1 := ⟨d (a + k) + 10000 * c1 - (c + lb_ d b n k), by omega⟩
    have go : wX_minus_17 post (wX_minus_6 post (nI a) (nI b) (nI n) fS fC fA fP fW fE fN fT (r + 1)) (nI a) (nI b) (nI n) (nI c) (nI k) fS fC fA fP fW fE fN fT aL aG aC aT aO aR aA aK aH aB (dn_A d) := by
      refine xn_17 hB (by omega) hn hc hc1 ht (xn_l ha hn hm hd r (k + 1) c1 _ (bd_u hB (by omega)) (by omega) hc2.1 ?_ (fun d' b' e' f' => K d' b' ?_ (fr_k f' (by omega) (by omega) (by omega) (by omega))))
      · rw [dl_low, lb_s] at ho
        rw [dl_u (by omega), dl_u (by omega)]
        rw [show a + (k + 1) = a + k + 1 from rfl]
        omega
      · rw [dl_low, dl_low, lb_s, f' (a + k) (by omega), dn_us]
        rw [dl_u (by omega), dl_u (by omega)] at e'
        rw [show a + (k + 1) = a + k + 1 from rfl] at e'
        omega
    refine pk_lt k n (fun _ => go) (fun z => pk_le c 0 (fun y => K d hB ?_ fr_r) (fun _ => go))
    rw [show n - k = 0 by omega, dl_0]; omega
/-- n limbs from b on are taken from the m from a on -/
theorem x_minus {d : Nat → Nat} (hB : bd_ d) (a b n m : Nat) (ha : a + m ≤ 240) (hn : b + n ≤ 240) (hm : n ≤ m) (hd : a + m ≤ b ∨ b + n ≤ a) (ho : dl_v 10000 d b n ≤ dl_v 10000 d a m)
    (K : ∀ d', bd_ d' → dl_v 10000 d' a m = dl_v 10000 d a m - dl_v 10000 d b n → fr_ d d' a (a + m) → post (fS, fC, fA, fP, fW, fE, fN, fT, aL, aG, aC, aT, aO, aR, aA, aK, aH, aB, dn_A d')) :
    wpX_minus post (fS, fC, fA, fP, fW, fE, fN, fT, aL, aG, aC, aT, aO, aR, aA, aK, aH, aB, dn_A d) (nI a) (nI b) (nI n) :=
  ⟨m + 1, xn_l ha hn hm hd m 0 0 d hB (by omega) (by decide) ho (fun d' b' e' f' => K d' b' (by
    have e2 : dl_v 10000 d' a m + dl_v 10000 d b n + 0 = dl_v 10000 d a m := e'
    omega) f')⟩
/-! products -/
theorem xt_25 {J : Int32 → (Nat → Int32) → (Nat → Int32) → (Nat → Int32) → (Nat → Int32) → (Nat → Int32) → (Nat → Int32) → (Nat → Int32) → (Nat → Int32) → (Nat → Int32) → (Nat → Int32) → (Nat → Int32) → Prop}
    {a n b m c i t : Nat} (hi : i < n) (ha : a + n ≤ 240) (hb : b + m ≤ 240) (hc : c + n + m ≤ 240) (da : a + n ≤ c ∨ c + n + m ≤ a) (db : b + m ≤ c ∨ c + n + m ≤ b) (ht : t < 10000) : ∀ (r j cr : Nat) (d : Nat → Nat), bd_ d → j + r = m → cr < 10000 → d (a + i) = t →
    (∀ d' c', bd_ d' → c' < 10000 → dl_v 10000 d' (c + i + j) r + c' * 10000 ^ r = dl_v 10000 d (c + i + j) r + t * dl_v 10000 d (b + j) r + cr → fr_ d d' (c + i + j) (c + i + m) → J (nI (i + 1)) aL aG aC aT aO aR aA aK aH aB (dn_A (dn_u d' (c + i + m) c'))) →
    wX_times_25 post J (nI a) (nI n) (nI b) (nI m) (nI c) (nI i) fS fC fA fP fW fE fN fT (r + 1) (nI cr) (nI j) aL aG aC aT aO aR aA aK aH aB (dn_A d)
  | 0, j, cr, d, hB, hj, hcr, hd, K => pk_le m j (fun _ => ⟨pk_in (c + i + m) 240 (by omega) (ni_3 _ _ _), nm_r (dn_st (c + i + m) cr (ni_3 _ _ _) rfl (by omega)) (nm_r (nI_1 i) (K d cr hB hcr (by simp only [dl_0]; omega) fr_r))⟩) (fun z => by omega)
  | r + 1, j, cr, d, hB, hj, hcr, hd, K => by
    have h1 := hB (b + j)
    have h2 := hB (c + i + j)
    have hv : t * d (b + j) + d (c + i + j) + cr < 100000000 := by
      have := Nat.mul_le_mul (show t ≤ 9999 by omega) (show d (b + j) ≤ 9999 by omega)
      omega
    generalize ev : t * d (b + j) + d (c + i + j) + cr = v at hv
    refine pk_le m j (fun z => by omega) (fun _ => ⟨pk_in (a + i) 240 (by omega) (nI_add _ _), pk_in (b + j) 240 (by omega) (nI_add _ _), pk_in (c + i + j) 240 (by omega) (ni_3 _ _ _),
      nm_r (e' := nI v) (by rw [dn_rd (a + i) (nI_add _ _) (by omega), dn_rd (b + j) (nI_add _ _) (by omega), dn_rd (c + i + j) (ni_3 _ _ _) (by omega), hd, pk_mul, nI_add, nI_add, ev])
      ⟨by decide, pk_in (c + i + j) 240 (by omega) (ni_3 _ _ _), nm_r (dn_st (c + i + j) (v % 10000) (ni_3 _ _ _) (pk_rem (d := 10000) (by omega) (by decide) (by decide)) (by omega))
      ⟨by decide, nm_r (pk_div (d := 10000) (by omega) (by decide) (by decide)) (nm_r (nI_1 j) (xt_25 hi ha hb hc da db ht r (j + 1) (v / 10000) _ (bd_u hB (Nat.mod_lt _ (by decide))) (by omega) (by omega) (by rw [dn_un (by omega)]; exact hd)
        (fun d' c' b' l' e' f' => K d' c' b' l' ?_ (fr_k f' (by omega) (by omega) (by omega) (by omega)))))⟩⟩⟩)
    rw [dl_low, dl_low, dl_low, Nat.pow_succ, f' (c + i + j) (by omega), dn_us]
    refine pa_mac ev.symm ?_
    rw [dl_u (by omega), dl_u (by omega)] at e'
    exact e'
theorem xt_13 {a n b m c : Nat} (ha : a + n ≤ 240) (hb : b + m ≤ 240) (hc : c + n + m ≤ 240) (da : a + n ≤ c ∨ c + n + m ≤ a) (db : b + m ≤ c ∨ c + n + m ≤ b) : ∀ (r i : Nat) (d : Nat → Nat), bd_ d → i + r = n →
    dl_v 10000 d c (i + m) = dl_v 10000 d a i * dl_v 10000 d b m →
    (∀ d', bd_ d' → dl_v 10000 d' c (n + m) = dl_v 10000 d a n * dl_v 10000 d b m → fr_ d d' c (c + n + m) → post (fS, fC, fA, fP, fW, fE, fN, fT, aL, aG, aC, aT, aO, aR, aA, aK, aH, aB, dn_A d')) →
    wX_times_13 post (nI a) (nI n) (nI b) (nI m) (nI c) fS fC fA fP fW fE fN fT (r + 1) (nI i) aL aG aC aT aO aR aA aK aH aB (dn_A d)
  | 0, i, d, hB, hi, e, K => pk_le n i (fun _ => K d hB (by rw [show n = i by omega]; exact e) fr_r) (fun z => by omega)
  | r + 1, i, d, hB, hi, e, K => by
    refine pk_le n i (fun z => by omega) (fun _ => ⟨m + 1, xt_25 (t := d (a + i)) (by omega) ha hb hc da db (hB _) m 0 0 d hB (by omega) (by decide) rfl (fun d1 c1 b1 l1 e1 f1 => ?_)⟩)
    have f2 : fr_ d (dn_u d1 (c + i + m) c1) c (c + n + m) := fr_t f1 (fr_u (a := c + i) (b := c + i + m + 1) (by omega) (by omega)) (by omega) (by omega) (by omega) (by omega)
    refine xt_13 ha hb hc da db r (i + 1) _ (bd_u b1 l1) (by omega) ?_ (fun d' b' e' f' => K d' b' ?_ (fr_t f2 f' (by omega) (by omega) (by omega) (by omega)))
    · rw [fr_v f2 (c := a) (n := i + 1) (by omega), fr_v f2 (c := b) (by omega), show i + 1 + m = i + (m + 1) by omega, dl_app, dl_us, dl_u (by omega), fr_v f1 (c := c) (n := i) (by omega)]
      rw [dl_app] at e
      rw [Nat.add_zero, Nat.add_zero] at e1
      rw [show c + i + 0 = c + i from rfl] at *
      rw [e1, dl_s, Nat.add_mul, ← e, Nat.mul_add, ← Nat.add_assoc, Nat.mul_comm (d (a + i)) (10000 ^ i), Nat.mul_assoc]; rfl
    · rw [e', fr_v f2 (c := a) (n := n) (by omega), fr_v f2 (c := b) (by omega)]
/-- the product of n limbs from a on and m from b on, to the n + m from c on -/
theorem x_times {d : Nat → Nat} (hB : bd_ d) (a n b m c : Nat) (ha : a + n ≤ 240) (hb : b + m ≤ 240) (hc : c + n + m ≤ 240) (da : a + n ≤ c ∨ c + n + m ≤ a) (db : b + m ≤ c ∨ c + n + m ≤ b)
    (K : ∀ d', bd_ d' → dl_v 10000 d' c (n + m) = dl_v 10000 d a n * dl_v 10000 d b m → fr_ d d' c (c + n + m) → post (fS, fC, fA, fP, fW, fE, fN, fT, aL, aG, aC, aT, aO, aR, aA, aK, aH, aB, dn_A d')) :
    wpX_times post (fS, fC, fA, fP, fW, fE, fN, fT, aL, aG, aC, aT, aO, aR, aA, aK, aH, aB, dn_A d) (nI a) (nI n) (nI b) (nI m) (nI c) := by
  unfold wpX_times
  dsimp only
  rw [nI_add]
  refine x_zero hB c (n + m) (by omega) (fun d1 b1 z1 f1 => ⟨n + 1, xt_13 ha hb hc da db n 0 d1 b1 (by omega) ?_ (fun d2 b2 e2 f2 => K d2 b2 ?_ (fr_t f1 f2 (by omega) (by omega) (by omega) (by omega)))⟩)
  · rw [dl_0, Nat.zero_mul, Nat.zero_add]
    exact dl_z (fun k hk => z1 _ (by omega) (by omega))
  · rw [e2, fr_v f1 (c := a) (n := n) (by omega), fr_v f1 (c := b) (by omega)]
end
end
section
/-! the product by halves; copies -/
section
variable {fS fC fA fP fW fE fN fT : Int32} {aL aG aC aT aO aR aA aK aH aB aW : Nat → Int32}
variable {post : SX → Prop} {pr : Int32 → SX → Prop} {pi : Int32 → Prop}
theorem xk_l {a b n : Nat} (ha : a + n ≤ 240) (hb : b + n ≤ 240) (hd : a + n ≤ b ∨ b + n ≤ a) : ∀ (m k : Nat) (d : Nat → Nat), bd_ d → k + m = n →
    (∀ d', bd_ d' → (∀ j, k ≤ j → j < n → d' (b + j) = d (a + j)) → fr_ d d' (b + k) (b + n) → post (fS, fC, fA, fP, fW, fE, fN, fT, aL, aG, aC, aT, aO, aR, aA, aK, aH, aB, dn_A d')) →
    wX_copyLimbs_3 post (nI a) (nI b) (nI n) fS fC fA fP fW fE fN fT (m + 1) (nI k) aL aG aC aT aO aR aA aK aH aB (dn_A d)
  | 0, k, d, hB, hi, K => pk_le n k (fun _ => K d hB (fun j _ _ => by omega) fr_r) (fun z => by omega)
  | m + 1, k, d, hB, hi, K => by
    refine pk_le n k (fun z => by omega) (fun _ => ⟨pk_in (a + k) 240 (by omega) (nI_add _ _), pk_in (b + k) 240 (by omega) (nI_add _ _), nm_r (dn_st (b + k) (d (a + k)) (nI_add _ _) (dn_rd _ (nI_add _ _) (by omega)) (by omega)) (nm_r (nI_1 k) (xk_l ha hb hd m (k + 1) _ (bd_u hB (hB _)) (by omega) (fun d' b' e' f' => K d' b' (fun j g1 g2 => ?_) (fr_k f' (by omega) (by omega) (by omega) (by omega)))))⟩)
    rcases Nat.eq_or_lt_of_le g1 with q | q
    · subst q; rw [f' (b + k) (by omega), dn_us]
    · rw [e' j q g2, dn_un (by omega)]
theorem x_copyL {d : Nat → Nat} (hB : bd_ d) (a b n : Nat) (ha : a + n ≤ 240) (hb : b + n ≤ 240) (hd : a + n ≤ b ∨ b + n ≤ a)
    (K : ∀ d', bd_ d' → dl_v 10000 d' b n = dl_v 10000 d a n → fr_ d d' b (b + n) → post (fS, fC, fA, fP, fW, fE, fN, fT, aL, aG, aC, aT, aO, aR, aA, aK, aH, aB, dn_A d')) :
    wpX_copyLimbs post (fS, fC, fA, fP, fW, fE, fN, fT, aL, aG, aC, aT, aO, aR, aA, aK, aH, aB, dn_A d) (nI a) (nI b) (nI n) :=
  ⟨n + 1, xk_l ha hb hd n 0 d hB (by omega) (fun d' b' e' f' => K d' b' (dl_congr (fun k hk => e' k (by omega) hk)) f')⟩
theorem xh_l : ∀ (m k : Nat) (d : Nat → Nat), bd_ d → k + m = 5 →
    (∀ d', bd_ d' → (∀ j, k ≤ j → j < 5 → d' (224 + j) = d (0 + j) ∧ d' (232 + j) = d (32 + j)) → (∀ j, (j < 224 + k ∨ (229 ≤ j ∧ j < 232 + k) ∨ 237 ≤ j) → d' j = d j) →
      wX_timesByHalves_11 post 0 32 fS fC fA fP fW fE fN fT 1 5 aL aG aC aT aO aR aA aK aH aB (dn_A d')) →
    wX_timesByHalves_11 post 0 32 fS fC fA fP fW fE fN fT (m + 1) (nI k) aL aG aC aT aO aR aA aK aH aB (dn_A d)
  | 0, k, d, hB, hi, K => by
    have e : k = 5 := by omega
    subst e
    exact K d hB (fun j _ _ => by omega) (fun j _ => rfl)
  | m + 1, k, d, hB, hi, K => by
    refine pk_le 5 k (fun z => by omega) (fun _ => ⟨pk_in (0 + k) 240 (by omega) (nI_add 0 k), pk_in (224 + k) 240 (by omega) (nI_add 224 k), nm_r (dn_st (224 + k) (d (0 + k)) (nI_add 224 k) (dn_rd _ (nI_add 0 k) (by omega)) (by omega))
      ⟨pk_in (32 + k) 240 (by omega) (nI_add 32 k), pk_in (232 + k) 240 (by omega) (nI_add 232 k), nm_r (dn_st (232 + k) (d (32 + k)) (nI_add 232 k) ((dn_rd _ (nI_add 32 k) (by omega)).trans (by rw [dn_un (by omega)])) (by omega))
      (nm_r (nI_1 k) (xh_l m (k + 1) _ (bd_u (bd_u hB (hB _)) (hB _)) (by omega) (fun d' b' e' f' => K d' b' (fun j g1 g2 => ?_) (fun j hj => ?_))))⟩⟩)
    · rcases Nat.eq_or_lt_of_le g1 with q | q
      · subst q
        rw [f' (224 + k) (by omega), f' (232 + k) (by omega), dn_us, dn_un (by omega), dn_us]
        exact ⟨rfl, rfl⟩
      · have := e' j q g2
        rw [this.1, this.2, dn_un (by omega), dn_un (by omega), dn_un (by omega), dn_un (by omega)]
        exact ⟨rfl, rfl⟩
    · rw [f' j (by omega), dn_un (by omega), dn_un (by omega)]
theorem ka_ {A0 A1 B0 B1 P : Nat} : (A0 + P * A1) * (B0 + P * B1) = A0 * B0 + P * (((A0 + A1) * (B0 + B1) - A0 * B0 - A1 * B1) + P * (A1 * B1)) := by
  have h : (A0 + A1) * (B0 + B1) - A0 * B0 - A1 * B1 = A0 * B1 + A1 * B0 := by
    rw [Nat.add_mul, Nat.mul_add, Nat.mul_add]; omega
  rw [h]
  grind
theorem x_tbh {d : Nat → Nat} (hB : bd_ d)
    (K : ∀ d', bd_ d' → dl_v 10000 d' 160 64 = dl_v 10000 d 0 10 * dl_v 10000 d 32 10 → fr_ d d' 64 240 → post (fS, fC, fA, fP, fW, fE, fN, fT, aL, aG, aC, aT, aO, aR, aA, aK, aH, aB, dn_A d')) :
    wpX_timesByHalves post (fS, fC, fA, fP, fW, fE, fN, fT, aL, aG, aC, aT, aO, aR, aA, aK, aH, aB, dn_A d) 0 32 := by
  unfold wpX_timesByHalves
  refine x_zero hB 224 16 (by decide) (fun d0 b0 z0 f0 => ⟨6, xh_l 5 0 d0 b0 rfl (fun d1 b1 e1 f1 => ?_)⟩)
  have q1 : dl_v 10000 d1 224 6 = dl_v 10000 d 0 5 := by
    rw [dl_s, dl_congr (e := d) (b := 0) (fun k hk => by rw [(e1 k (by omega) hk).1]; exact f0 _ (by omega)), f1 (224 + 5) (by omega), z0 (224 + 5) (by omega) (by omega)]
    omega
  have q2 : dl_v 10000 d1 232 6 = dl_v 10000 d 32 5 := by
    rw [dl_s, dl_congr (e := d) (b := 32) (fun k hk => by rw [(e1 k (by omega) hk).2]; exact f0 _ (by omega)), f1 (232 + 5) (by omega), z0 (232 + 5) (by omega) (by omega)]
    omega
  have g1 : ∀ j, j < 224 → d1 j = d j := fun j hj => by rw [f1 j (by omega), f0 j (by omega)]
  have A0 : dl_v 10000 d 0 5 < 10000 ^ 5 := dl_lt (fun j _ => b_of hB)
  have A1 : dl_v 10000 d 5 5 < 10000 ^ 5 := dl_lt (fun j _ => b_of hB)
  have B0 : dl_v 10000 d 32 5 < 10000 ^ 5 := dl_lt (fun j _ => b_of hB)
  have B1 : dl_v 10000 d 37 5 < 10000 ^ 5 := dl_lt (fun j _ => b_of hB)
  have SA : dl_v 10000 d 0 10 = dl_v 10000 d 0 5 + 10000 ^ 5 * dl_v 10000 d 5 5 := dl_app 5 5
  have SB : dl_v 10000 d 32 10 = dl_v 10000 d 32 5 + 10000 ^ 5 * dl_v 10000 d 37 5 := dl_app 5 5
  have LA : dl_v 10000 d 0 10 < 10000 ^ 10 := dl_lt (fun j _ => b_of hB)
  have LB : dl_v 10000 d 32 10 < 10000 ^ 10 := dl_lt (fun j _ => b_of hB)
  have LP : dl_v 10000 d 0 10 * dl_v 10000 d 32 10 < 10000 ^ 20 := by
    rw [show (10000 : Nat) ^ 20 = 10000 ^ 10 * 10000 ^ 10 by decide]
    exact Nat.mul_lt_mul'' LA LB
  have r1 : dl_v 10000 d1 5 5 = dl_v 10000 d 5 5 := dl_congr (fun k hk => g1 _ (by omega))
  have r2 : dl_v 10000 d1 37 5 = dl_v 10000 d 37 5 := dl_congr (fun k hk => g1 _ (by omega))
  have kk := ka_ (A0 := dl_v 10000 d 0 5) (A1 := dl_v 10000 d 5 5) (B0 := dl_v 10000 d 32 5) (B1 := dl_v 10000 d 37 5) (P := 10000 ^ 5)
  rw [← SA, ← SB] at kk
  generalize dl_v 10000 d 0 10 = A at *
  generalize dl_v 10000 d 32 10 = Bb at *
  generalize ea0 : dl_v 10000 d 0 5 = a0 at *
  generalize ea1 : dl_v 10000 d 5 5 = a1 at *
  generalize eb0 : dl_v 10000 d 32 5 = b0' at *
  generalize eb1 : dl_v 10000 d 37 5 = b1' at *
  refine br_t (by decide) ?_
  refine x_plus b1 224 5 5 6 (by decide) (by decide) (by decide) (by decide) (by rw [q1, r1]; omega) (fun d2 b2 e2 f2 => ?_)
  refine x_plus b2 232 37 5 6 (by decide) (by decide) (by decide) (by decide) (by rw [fr_v f2 (by decide), fr_v f2 (by decide), q2, r2]; omega) (fun d3 b3 e3 f3 => ?_)
  rw [q1, r1] at e2
  rw [fr_v f2 (by decide), fr_v f2 (by decide), q2, r2] at e3
  refine x_zero b3 160 64 (by decide) (fun d4 b4 z4 f4 => ?_)
  refine x_times b4 0 5 32 5 160 (by decide) (by decide) (by decide) (by decide) (by decide) (fun d5 b5 e5 f5 => ?_)
  refine x_times b5 5 5 37 5 170 (by decide) (by decide) (by decide) (by decide) (by decide) (fun d6 b6 e6 f6 => ?_)
  refine x_zero b6 64 32 (by decide) (fun d7 b7 z7 f7 => ?_)
  refine x_times b7 224 6 232 6 64 (by decide) (by decide) (by decide) (by decide) (by decide) (fun d8 b8 e8 f8 => ?_)
  have g4 : ∀ j, j < 160 → d4 j = d j := fun j hj => by rw [f4 j (by omega), f3 j (by omega), f2 j (by omega), g1 j (by omega)]
  have v5 : dl_v 10000 d5 160 10 = a0 * b0' := by
    rw [e5, ← ea0, ← eb0]
    exact congr (congrArg _ (dl_congr (fun k hk => g4 _ (by omega)))) (dl_congr (fun k hk => g4 _ (by omega)))
  have v6 : dl_v 10000 d6 170 10 = a1 * b1' := by
    rw [e6, fr_v f5 (by decide), fr_v f5 (by decide), ← ea1, ← eb1]
    exact congr (congrArg _ (dl_congr (fun k hk => g4 _ (by omega)))) (dl_congr (fun k hk => g4 _ (by omega)))
  have v8 : dl_v 10000 d8 64 12 = (a0 + a1) * (b0' + b1') := by
    rw [e8, fr_v f7 (by decide), fr_v f7 (by decide), fr_v f6 (by decide), fr_v f6 (by decide), fr_v f5 (by decide), fr_v f5 (by decide), fr_v f4 (by decide), fr_v f4 (by decide), fr_v f3 (by decide), e2, e3]
  have w5 : dl_v 10000 d8 160 10 = a0 * b0' := by
    rw [fr_v f8 (by decide), fr_v f7 (by decide), fr_v f6 (by decide), v5]
  have w6 : dl_v 10000 d8 170 10 = a1 * b1' := by
    rw [fr_v f8 (by decide), fr_v f7 (by decide), v6]
  have hm : a0 * b0' + a1 * b1' ≤ (a0 + a1) * (b0' + b1') := by
    rw [Nat.add_mul, Nat.mul_add, Nat.mul_add]; omega
  refine x_minus b8 64 160 10 12 (by decide) (by decide) (by decide) (by decide) (by rw [w5, v8]; omega) (fun d9 b9 e9 f9 => ?_)
  rw [w5, v8] at e9
  have w9 : dl_v 10000 d9 170 10 = a1 * b1' := by rw [fr_v f9 (by decide), w6]
  refine x_minus b9 64 170 10 12 (by decide) (by decide) (by decide) (by decide) (by rw [w9, e9]; omega) (fun dA bA eA fA => ?_)
  rw [w9, e9] at eA
  have y5 : dl_v 10000 dA 160 20 = a0 * b0' + 10000 ^ 10 * (a1 * b1') := by
    rw [show (20 : Nat) = 10 + 10 from rfl, dl_app, fr_v fA (by decide), fr_v f9 (by decide), w5, fr_v fA (by decide)]
    exact congrArg (fun z => a0 * b0' + 10000 ^ 10 * z) w9
  have y6 : dl_v 10000 dA 160 20 = dl_v 10000 dA 160 5 + 10000 ^ 5 * dl_v 10000 dA 165 15 := dl_app 5 15
  refine x_plus bA 165 64 12 15 (by decide) (by decide) (by decide) (by decide) ?_ (fun dB bB eB fB => K dB bB ?_ ?_)
  · rw [eA]
    generalize (a0 + a1) * (b0' + b1') - a0 * b0' - a1 * b1' = M at *
    generalize a1 * b1' = Q at *
    generalize a0 * b0' = R at *
    generalize A * Bb = T at *
    omega
  · rw [eA] at eB
    have y7 : dl_v 10000 dB 160 64 = dl_v 10000 dB 160 20 := dl_ext (by decide) (fun k h1 h2 => by
      rw [fB _ (by omega), fA _ (by omega), f9 _ (by omega), f8 _ (by omega), f7 _ (by omega), f6 _ (by omega), f5 _ (by omega), z4 _ (by omega) (by omega)])
    have y8 : dl_v 10000 dB 160 20 = dl_v 10000 dB 160 5 + 10000 ^ 5 * dl_v 10000 dB 165 15 := dl_app 5 15
    rw [y7, y8, fr_v fB (by decide), eB]
    generalize (a0 + a1) * (b0' + b1') - a0 * b0' - a1 * b1' = M at *
    generalize a1 * b1' = Q at *
    generalize a0 * b0' = R at *
    generalize A * Bb = T at *
    omega
  · intro j hj
    rw [fB j (by omega), fA j (by omega), f9 j (by omega), f8 j (by omega), f7 j (by omega), f6 j (by omega), f5 j (by omega), f4 j (by omega), f3 j (by omega), f2 j (by omega), f1 j (by omega), f0 j (by omega)]
theorem x_p28 {n m : Nat} {d : Nat → Nat} (hB : bd_ d) (hn : n ≤ 10) (hm : m ≤ 10) (en : dl_v 10000 d 0 10 = dl_v 10000 d 0 n) (em : dl_v 10000 d 32 10 = dl_v 10000 d 32 m)
    (K : ∀ d', bd_ d' → dl_v 10000 d' 160 64 = dl_v 10000 d 0 10 * dl_v 10000 d 32 10 → fr_ d d' 64 240 → post (fS, fC, fA, fP, fW, fE, fN, fT, aL, aG, aC, aT, aO, aR, aA, aK, aH, aB, dn_A d')) :
    wX_product_28 post 0 32 (nI n) (nI m) fS fC fA fP fW fE fN fT aL aG aC aT aO aR aA aK aH aB (dn_A d) := by
  unfold wX_product_28
  refine x_zero hB 160 64 (by decide) (fun d1 b1 z1 f1 => ?_)
  refine x_times b1 0 n 32 m 160 (by omega) (by omega) (by omega) (by omega) (by omega) (fun d2 b2 e2 f2 => K d2 b2 ?_ (fr_t f1 f2 (by omega) (by omega) (by omega) (by omega)))
  rw [dl_ext (m := n + m) (by omega) (fun k h1 h2 => by rw [f2 _ (by omega), z1 _ (by omega) (by omega)]), e2, fr_v f1 (by omega), fr_v f1 (by omega), en, em]
theorem x_product {d : Nat → Nat} (hB : bd_ d)
    (K : ∀ d', bd_ d' → dl_v 10000 d' 160 64 = dl_v 10000 d 0 10 * dl_v 10000 d 32 10 → fr_ d d' 64 240 → post (fS, fC, fA, fP, fW, fE, fN, fT, aL, aG, aC, aT, aO, aR, aA, aK, aH, aB, dn_A d')) :
    wpX_product post (fS, fC, fA, fP, fW, fE, fN, fT, aL, aG, aC, aT, aO, aR, aA, aK, aH, aB, dn_A d) 0 32 := by
  unfold wpX_product
  refine x_size hB 0 10 (by decide) (fun n hn en _ _ => x_size hB 32 10 (by decide) (fun m hm em _ _ => ?_))
  refine pk_lt n 4 (fun _ => x_p28 hB hn hm en em K) (fun _ => pk_le 4 m (fun _ => x_tbh hB K) (fun _ => x_p28 hB hn hm en em K))
end
end
section
/-! one limb of a quotient: the estimate, what it stands for taken off, the correction -/
/-- the facts of the estimate: h the top limb of the divisor, v2 the next, E its rest below; T the two top limbs of the window, u2 the next, F its rest below; P a power -/
theorem kd_hi {h v2 E T u2 F P B g r V W q : Nat} (hV : V = E + P * (v2 + B * h)) (hE : E < P) (hW : W = F + P * (u2 + B * T)) (hF : F < P) (hq : q * V ≤ W)
    (hg : g * h + r = T) (hc : r * B + u2 < g * v2) : q < g := by
  rcases Nat.lt_or_ge q g with z | z
  · exact z
  · exfalso
    have h1 : g * V ≤ q * V := Nat.mul_le_mul_right V z
    have h2 : g * (P * (v2 + B * h)) ≤ g * V := Nat.mul_le_mul_left g (by omega)
    have h3 : P * (u2 + B * T + 1) ≤ g * (P * (v2 + B * h)) := by
      rw [Nat.mul_left_comm]
      refine Nat.mul_le_mul_left P ?_
      rw [← hg, Nat.mul_add, Nat.mul_add, Nat.mul_comm B r, Nat.mul_left_comm g B h]
      omega
    rw [Nat.mul_add P _ 1, Nat.mul_one] at h3
    omega
theorem kd_0 {h v2 E T u2 F P B V W q : Nat} (hV : V = E + P * (v2 + B * h)) (hW : W = F + P * (u2 + B * T)) (hF : F < P) (hu : u2 < B) (hq : q * V ≤ W) (hh : 0 < h) : q ≤ T / h := by
  rw [Nat.le_div_iff_mul_le hh]
  rcases Nat.lt_or_ge T (q * h) with z | z
  · exfalso
    have h1 : q * (P * (B * h)) ≤ q * V := Nat.mul_le_mul_left q (by rw [hV, Nat.mul_add]; omega)
    have h2 : P * (B * (T + 1)) ≤ q * (P * (B * h)) := by
      rw [show q * (P * (B * h)) = P * (B * (q * h)) by rw [Nat.mul_left_comm, Nat.mul_left_comm q B h]]
      exact Nat.mul_le_mul_left P (Nat.mul_le_mul_left B z)
    have h3 : P * (u2 + B * T + 1) ≤ P * (B * (T + 1)) := Nat.mul_le_mul_left P (by rw [Nat.mul_add]; omega)
    rw [Nat.mul_add P _ 1, Nat.mul_one] at h3
    omega
  · exact z
/-- the rest has grown beyond a limb -/
theorem kd_A {h v2 E T u2 F P B g r V W : Nat} (hV : V = E + P * (v2 + B * h)) (hE : E < P) (hv : v2 < B) (hW : W = F + P * (u2 + B * T)) (hWV : W < B * V)
    (hg : g * h + r = T) (hr : B ≤ r) (hh : 0 < h) (hP : 0 < P) : g < B ∧ (g - 1) * V ≤ W := by
  have h1 : V ≤ P * (B * (h + 1)) := by
    have : P * (v2 + B * h + 1) ≤ P * (B * (h + 1)) := Nat.mul_le_mul_left P (by rw [Nat.mul_add]; omega)
    rw [Nat.mul_add P _ 1, Nat.mul_one] at this
    omega
  have hT : T < B * (h + 1) := by
    rcases Nat.lt_or_ge T (B * (h + 1)) with z | z
    · exact z
    · exfalso
      have h2 : B * V ≤ B * (P * (B * (h + 1))) := Nat.mul_le_mul_left B h1
      have h3 : P * (B * (B * (h + 1))) ≤ P * (B * T) := Nat.mul_le_mul_left P (Nat.mul_le_mul_left B z)
      rw [Nat.mul_left_comm B P] at h2
      have h4 : P * (B * T) ≤ W := by rw [hW, Nat.mul_add]; omega
      omega
  have hgB : g < B := by
    rcases Nat.lt_or_ge g B with z | z
    · exact z
    · exfalso
      have := Nat.mul_le_mul_right h z
      rw [Nat.mul_add] at hT
      omega
  refine ⟨hgB, ?_⟩
  rcases Nat.eq_zero_or_pos g with z | z
  · subst z; rw [show 0 - 1 = 0 from rfl, Nat.zero_mul]; omega
  · obtain ⟨k, rfl⟩ : ∃ k, g = k + 1 := ⟨g - 1, by omega⟩
    rw [show k + 1 - 1 = k from rfl]
    have h2 : k * V ≤ k * (P * (B * (h + 1))) := Nat.mul_le_mul_left k h1
    have h3 : k * (P * (B * (h + 1))) ≤ P * (B * T) := by
      rw [Nat.mul_left_comm, Nat.mul_left_comm k B]
      refine Nat.mul_le_mul_left P (Nat.mul_le_mul_left B ?_)
      rw [Nat.add_mul] at hg
      rw [Nat.mul_add]
      omega
    have h4 : P * (B * T) ≤ W := by rw [hW, Nat.mul_add]; omega
    omega
/-- the two limbs' test holds -/
theorem kd_B {h v2 E T u2 F P B g r V W : Nat} (hV : V = E + P * (v2 + B * h)) (hE : E < P) (hW : W = F + P * (u2 + B * T))
    (hg : g * h + r = T) (hc : g * v2 ≤ r * B + u2) (hgB : g < B) (hh : 0 < h) : (g - 1) * V ≤ W := by
  rcases Nat.eq_zero_or_pos g with z | z
  · subst z; rw [show 0 - 1 = 0 from rfl, Nat.zero_mul]; omega
  · obtain ⟨k, rfl⟩ : ∃ k, g = k + 1 := ⟨g - 1, by omega⟩
    rw [show k + 1 - 1 = k from rfl]
    have h1 : (k + 1) * (v2 + B * h) ≤ u2 + B * T := by
      rw [← hg, Nat.mul_add, Nat.mul_add, Nat.mul_comm B r, Nat.mul_left_comm (k + 1) B h]
      omega
    have h2 : P * ((k + 1) * (v2 + B * h)) ≤ P * (u2 + B * T) := Nat.mul_le_mul_left P h1
    have h3 : k * E ≤ P * (B * h) := by
      have : k * E ≤ B * P := Nat.mul_le_mul (by omega) (by omega)
      have h5 : P * (B * 1) ≤ P * (B * h) := Nat.mul_le_mul_left P (Nat.mul_le_mul_left B hh)
      rw [Nat.mul_one, Nat.mul_comm P B] at h5
      omega
    rw [Nat.mul_left_comm, Nat.add_mul, Nat.one_mul] at h2
    have h6 : P * (v2 + B * h) = P * v2 + P * (B * h) := Nat.mul_add _ _ _
    rw [hV, Nat.mul_add]
    omega
section
variable {fS fC fA fP fW fE fN fT : Int32} {aL aG aC aT aO aR aA aK aH aB aW : Nat → Int32}
variable {post : SX → Prop} {pr : Int32 → SX → Prop} {pi : Int32 → Prop}
/-- what is added back -/
theorem xa_l {j m : Nat} (hj : j + m < 32) (hm : m < 32) : ∀ (r k c : Nat) (d : Nat → Nat), bd_ d → k + r = m + 1 → c ≤ 1 →
    (∀ d' c', bd_ d' → c' ≤ 1 → dl_v 10000 d' (j + k) r + c' * 10000 ^ r = dl_v 10000 d (j + k) r + dl_v 10000 d (32 + k) r + c → fr_ d d' (j + k) (j + m + 1) → post (fS, fC, fA, fP, fW, fE, fN, fT, aL, aG, aC, aT, aO, aR, aA, aK, aH, aB, dn_A d')) →
    wX_addBack_5 post (nI j) (nI m) fS fC fA fP fW fE fN fT (r + 1) (nI c) (nI k) aL aG aC aT aO aR aA aK aH aB (dn_A d)
  | 0, k, c, d, hB, hk, hc, K => pk_lt m k (fun _ => K d c hB hc (by simp only [dl_0]; omega) fr_r) (fun z => by omega)
  | r + 1, k, c, d, hB, hk, hc, K => by
    have h1 := hB (j + k)
    have h2 := hB (32 + k)
    generalize ev : d (j + k) + d (32 + k) + c = v
    have go : ∀ q : Nat, q = v / 10000 → wX_addBack_48 post (wX_addBack_5 post (nI j) (nI m) fS fC fA fP fW fE fN fT (r + 1)) (nI j) (nI m) (nI k) (nI v) (nI q) fS fC fA fP fW fE fN fT aL aG aC aT aO aR aA aK aH aB (dn_A d) := by
      intro q hq
      refine ⟨pk_in (j + k) 240 (by omega) (nI_add _ _), nm_r (dn_st (j + k) (v % 10000) (nI_add _ _) ?_ (by omega)) (nm_r (nI_1 k) (xa_l hj hm r (k + 1) q _ (bd_u hB (by omega)) (by omega) (by omega) (fun d' c' b' l' e' f' => K d' c' b' l' ?_ (fr_k f' (by omega) (by omega) (by omega) (by omega)))))⟩
      · rw [show (10000 : Int32) = nI 10000 by decide, pk_mul, pk_sub (by omega)]; exact congrArg nI (by omega)
      · rw [dl_low, dl_low, dl_low, f' (j + k) (by omega), dn_us, Nat.pow_succ, ← Nat.mul_assoc]
        rw [dl_u (by omega), dl_u (by omega)] at e'
        rw [show j + (k + 1) = j + k + 1 from rfl, show 32 + (k + 1) = 32 + k + 1 from rfl] at e'
        generalize c' * 10000 ^ r = Q at *
        omega
    refine pk_lt m k (fun z => by omega) (fun _ => ⟨pk_in (j + k) 240 (by omega) (nI_add _ _), pk_in (32 + k) 240 (by omega) (nI_add 32 k),
      nm_r (e' := nI v) (by rw [dn_rd (j + k) (nI_add _ _) (by omega), dn_rd (x := 32 + nI k) (32 + k) (nI_add 32 k) (by omega), nI_add, nI_add, ev]) (pk_lt v 10000 (fun z => go 0 (by omega)) (fun z => go 1 (by omega)))⟩)
theorem x_addBack {d : Nat → Nat} (hB : bd_ d) (j m : Nat) (hj : j + m < 32) (hm : m < 32)
    (K : ∀ d' c', bd_ d' → c' ≤ 1 → dl_v 10000 d' j (m + 1) + c' * 10000 ^ (m + 1) = dl_v 10000 d j (m + 1) + dl_v 10000 d 32 (m + 1) → fr_ d d' j (j + m + 1) → post (fS, fC, fA, fP, fW, fE, fN, fT, aL, aG, aC, aT, aO, aR, aA, aK, aH, aB, dn_A d')) :
    wpX_addBack post (fS, fC, fA, fP, fW, fE, fN, fT, aL, aG, aC, aT, aO, aR, aA, aK, aH, aB, dn_A d) (nI j) (nI m) :=
  ⟨m + 2, xa_l hj hm (m + 1) 0 0 d hB (by omega) (by decide) (fun d' c' b' l' e' f' => K d' c' b' l' e' f')⟩
theorem ni_neg9 {x t : Nat} (hx : x < 10000) (ht : t < 200000000) (h : x < t) : (9999 : Int32) - (nI x - nI t) = nI (9999 + t - x) := by
  have e : nI (9999 + t) - nI x = nI (9999 + t - x) := pk_sub (by omega)
  rw [← e, ← nI_add, show nI 9999 = (9999 : Int32) from rfl]
  grind
/-- what the estimate stands for is taken off -/
theorem xb_l {j m g : Nat} (hj : j + m < 32) (hm : m < 32) (hg : g < 10000) : ∀ (r k c : Nat) (d : Nat → Nat), bd_ d → k + r = m + 1 → c < 10000 →
    (∀ d' c', bd_ d' → c' < 10000 → dl_v 10000 d' (j + k) r + g * dl_v 10000 d (32 + k) r + c = dl_v 10000 d (j + k) r + c' * 10000 ^ r → fr_ d d' (j + k) (j + m + 1) →
      (∀ F, wX_takeLimb_117 pr (nI j) (nI m) (nI g) fS fC fA fP fW fE fN fT (F + 1) (nI c') (nI (m + 1)) aL aG aC aT aO aR aA aK aH aB (dn_A d'))) →
    wX_takeLimb_117 pr (nI j) (nI m) (nI g) fS fC fA fP fW fE fN fT (r + 1) (nI c) (nI k) aL aG aC aT aO aR aA aK aH aB (dn_A d)
  | 0, k, c, d, hB, hk, hc, K => by
    have e : k = m + 1 := by omega
    subst e
    exact K d c hB hc (by simp only [dl_0]; omega) fr_r 0
  | r + 1, k, c, d, hB, hk, hc, K => by
    have h1 := hB (j + k)
    have h2 := hB (32 + k)
    have h3 : g * d (32 + k) ≤ 9999 * 9999 := Nat.mul_le_mul (by omega) (by omega)
    obtain ⟨t, et⟩ : ∃ t, t = c + g * d (32 + k) := ⟨_, rfl⟩
    have go : ∀ (x9 : Int32) (q s : Nat), q < 10000 → s < 10000 → s + t = d (j + k) + 10000 * q → x9 + nI q * 10000 = nI s →
        wX_takeLimb_170 pr (wX_takeLimb_117 pr (nI j) (nI m) (nI g) fS fC fA fP fW fE fN fT (r + 1)) (nI j) (nI m) (nI g) (nI k) x9 (nI q) fS fC fA fP fW fE fN fT aL aG aC aT aO aR aA aK aH aB (dn_A d) := by
      intro x9 q s hq hs hh hx
      refine ⟨pk_in (j + k) 240 (by omega) (nI_add _ _), nm_r (dn_st (j + k) s (nI_add _ _) hx (by omega)) (nm_r (nI_1 k) (xb_l hj hm hg r (k + 1) q _ (bd_u hB hs) (by omega) hq (fun d' c' b' l' e' f' => K d' c' b' l' ?_ (fr_k f' (by omega) (by omega) (by omega) (by omega)))))⟩
      rw [dl_low, dl_low, dl_low, f' (j + k) (by omega), dn_us, Nat.pow_succ, ← Nat.mul_assoc, Nat.mul_add, Nat.mul_left_comm]
      rw [dl_u (by omega), dl_u (by omega)] at e'
      rw [show j + (k + 1) = j + k + 1 from rfl, show 32 + (k + 1) = 32 + k + 1 from rfl] at e'
      generalize c' * 10000 ^ r = Q at *
      generalize g * dl_v 10000 d (32 + k + 1) r = R at *
      omega
    refine pk_lt m k (fun z => by omega) (fun _ => ⟨pk_in (j + k) 240 (by omega) (nI_add _ _), pk_in (32 + k) 240 (by omega) (nI_add 32 k),
      nm_r (e' := nI (d (j + k)) - nI t) (by rw [dn_rd (j + k) (nI_add _ _) (by omega), dn_rd (x := 32 + nI k) (32 + k) (nI_add 32 k) (by omega), pk_mul, ni_ss, et]) ?_⟩)
    rcases Nat.lt_or_ge (d (j + k)) t with z | z
    · refine br_f ?_ ⟨by decide, ?_⟩
      · rw [Int32.le_iff_toInt_le, pk_sub_toInt (by omega) (by omega), show (0 : Int32).toInt = 0 by decide]; omega
      · rw [ni_neg9 h1 (by omega) z, show (10000 : Int32) = nI 10000 by decide, pk_div (by omega) (by decide) (by decide)]
        have hq : 10000 * ((9999 + t - d (j + k)) / 10000) + (9999 + t - d (j + k)) % 10000 = 9999 + t - d (j + k) := Nat.div_add_mod _ _
        have hq2 : (9999 + t - d (j + k)) % 10000 < 10000 := Nat.mod_lt _ (by decide)
        refine go _ _ (d (j + k) + 10000 * ((9999 + t - d (j + k)) / 10000) - t) (by omega) (by omega) (by omega) ?_
        rw [show (10000 : Int32) = nI 10000 by decide, pk_mul, ni_sb _ _ _ (by omega)]
        exact congrArg nI (by omega)
    · rw [pk_sub z]
      refine br_t (nI_pos' (by omega)) (go _ 0 (d (j + k) - t) (by decide) (by omega) (by omega) ?_)
      rw [show nI 0 * 10000 = nI 0 by decide, nI_add]; rfl
end
end
section
/-! quotients -/
section
variable {fS fC fA fP fW fE fN fT : Int32} {aL aG aC aT aO aR aA aK aH aB aW : Nat → Int32}
variable {post : SX → Prop} {pr : Int32 → SX → Prop} {pi : Int32 → Prop}
/-- the estimate -/
theorem xe_l {j p h T V W E F q : Nat} {d : Nat → Nat} (hB : bd_ d) (hj : j + p + 2 < 32) (hh : 0 < h) (hh2 : h < 10000) (hT : T < 100000000)
    (hV : V = E + 10000 ^ p * (d (32 + p) + 10000 * h)) (hE : E < 10000 ^ p) (hW : W = F + 10000 ^ p * (d (j + p) + 10000 * T)) (hF : F < 10000 ^ p) (hWV : W < 10000 * V) (hqV : q * V ≤ W) (hqB : q < 10000)
    (K : ∀ g, q ≤ g → (g - 1) * V ≤ W → g < 10000 → ∃ n117, wX_takeLimb_117 pr (nI j) (nI (p + 2)) (nI g) fS fC fA fP fW fE fN fT n117 0 0 aL aG aC aT aO aR aA aK aH aB (dn_A d)) :
    ∀ (f g r : Nat), 20000 < r + f → g * h + r = T → q ≤ g → r < 20000 → wX_takeLimb_49 pr (nI j) (nI (p + 2)) (nI h) fS fC fA fP fW fE fN fT aL aG aC aT aO aR aA aK aH aB (dn_A d) f (nI g) (nI r)
  | 0, g, r, hf, hg, hq, hr => by omega
  | f + 1, g, r, hf, hg, hq, hr => by
    have hgT : g ≤ T := Nat.le_trans (Nat.le_mul_of_pos_right g hh) (by omega)
    have v2 := hB (32 + p)
    have u2 := hB (j + p)
    have hP : 0 < 10000 ^ p := Nat.pow_pos (by decide)
    have again : q < g → r < 10000 → wX_takeLimb_49 pr (nI j) (nI (p + 2)) (nI h) fS fC fA fP fW fE fN fT aL aG aC aT aO aR aA aK aH aB (dn_A d) f (nI g + (-1)) (nI r + nI h) := by
      intro z hr2
      obtain ⟨k, rfl⟩ : ∃ k, g = k + 1 := ⟨g - 1, by omega⟩
      rw [pk_m1, nI_add]
      refine xe_l hB hj hh hh2 hT hV hE hW hF hWV hqV hqB K f k (r + h) (by omega) ?_ (by omega) (by omega)
      rw [Nat.add_mul] at hg
      omega
    refine pk_le 10000 r (fun z => ?_) (fun z => pk_lt 9999 g (fun y => nm_e (nm_e (again (by omega) z))) (fun y => ⟨pk_in (32 + p) 240 (by omega) ?_, pk_in (j + p) 240 (by omega) ?_, ?_⟩))
    · obtain ⟨h1, h2⟩ := kd_A (B := 10000) hV hE v2 hW hWV hg z hh hP
      exact K g hq h2 h1
    · rw [show (32 : Int32) = nI 32 from rfl, nI_add, show (2 : Int32) = nI 2 from rfl, pk_sub (by omega)]; rfl
    · rw [nI_add, show (2 : Int32) = nI 2 from rfl, pk_sub (by omega)]; rfl
    · rw [dn_rd (x := 32 + nI (p + 2) - 2) (32 + p) (by rw [show (32 : Int32) = nI 32 from rfl, nI_add, show (2 : Int32) = nI 2 from rfl, pk_sub (by omega)]; rfl) (by omega),
        dn_rd (x := nI j + nI (p + 2) - 2) (j + p) (by rw [nI_add, show (2 : Int32) = nI 2 from rfl, pk_sub (by omega)]; rfl) (by omega), pk_mul]
      have m1 : g * d (32 + p) ≤ 9999 * 9999 := Nat.mul_le_mul (by omega) (by omega)
      refine pk_le (g * d (32 + p)) (r * 10000 + d (j + p)) (fun x => K g hq (kd_B (B := 10000) hV hE hW hg x (by omega) hh) (by omega)) (fun x => nm_e (nm_e (again (kd_hi (B := 10000) hV hE hW hF hqV hg x) z))) rfl (ni_ma r 10000 _) (by omega) (by omega)

theorem x_take {d : Nat → Nat} (hB : bd_ d) (j p : Nat) (hj : j + p + 2 < 32) {V W : Nat} (eV : dl_v 10000 d 32 (p + 2) = V) (ev0 : d (32 + (p + 2)) = 0) (h0 : 0 < d (32 + (p + 1)))
    (eW : dl_v 10000 d j (p + 3) = W) (hWV : W < 10000 * V)
    (K : ∀ d', bd_ d' → dl_v 10000 d' j (p + 3) = W % V → fr_ d d' j (j + p + 3) → pr (nI (W / V)) (fS, fC, fA, fP, fW, fE, fN, fT, aL, aG, aC, aT, aO, aR, aA, aK, aH, aB, dn_A d')) :
    wpX_takeLimb pr (fS, fC, fA, fP, fW, fE, fN, fT, aL, aG, aC, aT, aO, aR, aA, aK, aH, aB, dn_A d) (nI j) (nI (p + 2)) := by
  have hP : 0 < 10000 ^ p := Nat.pow_pos (by decide)
  have hV : V = dl_v 10000 d 32 p + 10000 ^ p * (d (32 + p) + 10000 * d (32 + (p + 1))) := by
    rw [← eV, dl_app p 2, dl_low, dl_low, dl_0]; rfl
  have hW : W = dl_v 10000 d j p + 10000 ^ p * (d (j + p) + 10000 * (d (j + p + 2) * 10000 + d (j + p + 1))) := by
    rw [← eW, dl_app p 3, dl_low, dl_low, dl_low, dl_0]
    refine congrArg (fun z => dl_v 10000 d j p + 10000 ^ p * (d (j + p) + 10000 * z)) ?_
    show d (j + p + 1) + 10000 * (d (j + p + 2) + 10000 * 0) = _
    omega
  have hE : dl_v 10000 d 32 p < 10000 ^ p := dl_lt (fun k _ => b_of hB)
  have hF : dl_v 10000 d j p < 10000 ^ p := dl_lt (fun k _ => b_of hB)
  have hV0 : 0 < V := by
    rcases Nat.eq_zero_or_pos V with z | z
    · rw [z, Nat.mul_zero] at hWV; omega
    · exact z
  have hqV : W / V * V ≤ W := Nat.div_mul_le_self W V
  have hqB : W / V < 10000 := Nat.div_lt_of_lt_mul (by rw [Nat.mul_comm]; exact hWV)
  have hdm := Nat.div_add_mod W V
  have hml : W % V < V := Nat.mod_lt W hV0
  have hq0 : W / V ≤ (d (j + p + 2) * 10000 + d (j + p + 1)) / d (32 + (p + 1)) := kd_0 (B := 10000) hV hW hF (hB _) hqV h0
  have t1 := hB (j + p + 2)
  have t2 := hB (j + p + 1)
  have t3 := hB (32 + (p + 1))
  have eV1 : dl_v 10000 d 32 (p + 3) = V := by rw [dl_s, eV, ev0, Nat.zero_mul, Nat.add_zero]
  have hVP : V < 10000 ^ (p + 3) := by rw [← eV1]; exact dl_lt (fun k _ => b_of hB)
  generalize W / V = q at *
  generalize W % V = rm at *
  have i1 : (32 : Int32) + nI (p + 2) - 1 = nI (32 + (p + 1)) := ni_am 32 (p + 1)
  have i2 : nI j + nI (p + 2) = nI (j + p + 2) := nI_add _ _
  have i3 : nI j + nI (p + 2) - 1 = nI (j + p + 1) := ni_am j (p + 1)
  have hn : ¬ nI (d (32 + (p + 1))) = 0 := nI_ne0 h0 (by omega)
  refine ⟨pk_in (32 + (p + 1)) 240 (by omega) i1, nm_r (dn_rd _ i1 (by omega)) ⟨pk_in (j + p + 2) 240 (by omega) i2, pk_in (j + p + 1) 240 (by omega) i3,
    nm_r (e' := nI (d (j + p + 2) * 10000 + d (j + p + 1))) (by rw [dn_rd _ i3 (by omega), dn_rd _ i2 (by omega)]; exact ni_ma _ 10000 _)
    ⟨hn, nm_r (pk_div (by omega) h0 (by omega)) ⟨hn, nm_r (pk_rem (by omega) h0 (by omega)) ⟨20001, ?_⟩⟩⟩⟩⟩
  have hrm : (d (j + p + 2) * 10000 + d (j + p + 1)) % d (32 + (p + 1)) < d (32 + (p + 1)) := Nat.mod_lt _ h0
  refine xe_l (q := q) hB hj h0 t3 (by omega) hV hE hW hF hWV hqV hqB (fun g g1 g2 g3 => ⟨p + 4, ?_⟩) 20001 _ _ (by omega) (by rw [Nat.mul_comm]; exact Nat.div_add_mod _ _) hq0 (by omega)
  have g4 : g = q ∨ g = q + 1 := by
    rcases Nat.lt_or_ge (q + 1) g with z | z
    · exfalso
      have : (q + 1) * V ≤ (g - 1) * V := Nat.mul_le_mul_right V (by omega)
      rw [Nat.add_mul, Nat.one_mul, Nat.mul_comm q V] at this
      omega
    · omega
  refine xb_l (j := j) (m := p + 2) (g := g) (by omega) (by omega) g3 (p + 3) 0 0 d hB (by omega) (by decide) (fun d1 c1 b1 l1 e1 f1 F => br_t (nI_lt (by omega) (by omega)) ?_)
  have e1' : dl_v 10000 d1 j (p + 3) + g * V + 0 = W + c1 * 10000 ^ (p + 3) := by rw [← eV1, ← eW]; exact e1
  have L1 : dl_v 10000 d1 j (p + 3) < 10000 ^ (p + 3) := dl_lt (fun k _ => b_of b1)
  refine pk_le c1 0 (fun z => ?_) (fun z => ?_)
  · have z0 : c1 = 0 := by omega
    rw [z0, Nat.zero_mul] at e1'
    rcases g4 with e | e
    · subst e
      exact K d1 b1 (by rw [Nat.mul_comm g V] at e1'; omega) f1
    · exfalso
      rw [e, Nat.add_mul, Nat.one_mul, Nat.mul_comm q V] at e1'
      omega
  · have e : g = q + 1 := by
      rcases g4 with e | e
      · exfalso
        have := Nat.le_mul_of_pos_left (10000 ^ (p + 3)) z
        rw [e, Nat.mul_comm q V] at e1'
        omega
      · exact e
    rw [e, Nat.add_mul, Nat.one_mul, Nat.mul_comm q V] at e1'
    rw [e]
    refine nm_r (pk_m1 q) (x_addBack b1 j (p + 2) (by omega) (by omega) (fun d2 c2 b2 l2 e2 f2 => K d2 b2 ?_ (fr_t f1 f2 (by omega) (by omega) (by omega) (by omega))))
    have L2 : dl_v 10000 d2 j (p + 3) < 10000 ^ (p + 3) := dl_lt (fun k _ => b_of b2)
    rw [show dl_v 10000 d1 32 (p + 2 + 1) = V by rw [← eV1]; exact fr_v f1 (by omega)] at e2
    rw [show p + 2 + 1 = p + 3 from rfl] at e2
    have hc1 : c1 = 1 ∨ 2 ≤ c1 := by omega
    have hc2 : c2 = 0 ∨ c2 = 1 := by omega
    rcases hc1 with y | y
    · rw [y, Nat.one_mul] at e1'
      rcases hc2 with x | x
      · rw [x, Nat.zero_mul] at e2; omega
      · rw [x, Nat.one_mul] at e2; omega
    · have := Nat.mul_le_mul_right (10000 ^ (p + 3)) y
      rcases hc2 with x | x
      · rw [x, Nat.zero_mul] at e2; omega
      · rw [x, Nat.one_mul] at e2; omega
end
end
section
/-! the whole quotient -/
theorem qd_ {A q b V W R Q : Nat} (h : Q * V + R = A + b * (W % V)) (hq : q = W / V) : (Q + q * b) * V + R = A + b * W := by
  have e := Nat.div_add_mod W V
  rw [← hq] at e
  rw [Nat.add_mul, show q * b * V = b * (V * q) by rw [Nat.mul_comm q b, Nat.mul_assoc, Nat.mul_comm q V]]
  have h2 : b * (V * q + W % V) = b * W := by rw [e]
  rw [Nat.mul_add] at h2
  omega
section
variable {fS fC fA fP fW fE fN fT : Int32} {aL aG aC aT aO aR aA aK aH aB aW : Nat → Int32}
variable {post : SX → Prop} {pr : Int32 → SX → Prop} {pi : Int32 → Prop}
theorem xq_l {p V : Nat} (hVm : V < 10000 ^ (p + 2)) : ∀ (i : Nat) (d : Nat → Nat), bd_ d → i + (p + 2) < 32 → dl_v 10000 d 32 (p + 2) = V → d (32 + (p + 2)) = 0 → 0 < d (32 + (p + 1)) →
    (∀ k, i + (p + 2) ≤ k → k < 32 → d k = 0) → dl_v 10000 d i (p + 2) < V →
    (∀ d' R, bd_ d' → dl_v 10000 d' 64 i * V + R = dl_v 10000 d 0 (i + (p + 2)) → R < V → (∀ k, (32 ≤ k ∧ k < 64) ∨ 64 + i ≤ k → d' k = d k) → post (fS, fC, fA, fP, fW, fE, fN, fT, aL, aG, aC, aT, aO, aR, aA, aK, aH, aB, dn_A d')) →
    wX_quotient_115 post (nI (p + 2)) (i + 1) (nI i + (-1)) fS fC fA fP fW fE fN fT aL aG aC aT aO aR aA aK aH aB (dn_A d)
  | 0, d, hB, hi, eV, e0, h0, hz, hc, K => br_t (by decide) (K d _ hB (by rw [dl_0, Nat.zero_mul, Nat.zero_add, Nat.zero_add]) hc (fun k _ => rfl))
  | j + 1, d, hB, hi, eV, e0, h0, hz, hc, K => by
    rw [pk_m1]
    have hlow : dl_v 10000 d j (p + 3) = d j + 10000 * dl_v 10000 d (j + 1) (p + 2) := dl_low
    have hj0 := hB j
    refine br_f (nI_pos (by omega)) (x_take (W := dl_v 10000 d j (p + 3)) hB j p (by omega) eV e0 h0 rfl (by omega) (fun d1 b1 e1 f1 => ?_))
    have hV0 : 0 < V := by omega
    have hml : dl_v 10000 d j (p + 3) % V < V := Nat.mod_lt _ hV0
    have hq : dl_v 10000 d j (p + 3) / V < 10000 := Nat.div_lt_of_lt_mul (by rw [Nat.mul_comm]; omega)
    refine ⟨pk_in (64 + j) 240 (by omega) (nI_add 64 j), nm_r (dn_st (64 + j) _ (nI_add 64 j) rfl (by omega)) (nm_e ?_)⟩
    have top : ∀ k, p + 2 ≤ k → k < p + 3 → d1 (j + k) = 0 := dl_top (B := 10000) (by decide) (by omega) (by rw [e1]; omega)
    have cut : dl_v 10000 d1 j (p + 2) = dl_v 10000 d j (p + 3) % V := by
      rw [← e1]; exact (dl_cut (by decide) (by omega) (by rw [e1]; omega)).symm
    refine xq_l hVm j _ (bd_u b1 hq) (by omega) ?_ ?_ ?_ (fun k k1 k2 => ?_) ?_ (fun d' R b' e' l' f' => K d' R b' ?_ l' (fun k hk => ?_))
    · rw [dl_u (by omega), fr_v f1 (by omega), eV]
    · rw [dn_un (by omega), f1 _ (by omega), e0]
    · rw [dn_un (by omega), f1 _ (by omega)]; exact h0
    · rw [dn_un (by omega)]
      rcases Nat.eq_or_lt_of_le k1 with z | z
      · rw [← z]; exact top (p + 2) (by omega) (by omega)
      · rw [f1 k (by omega)]; exact hz k (by omega) k2
    · rw [dl_u (by omega), cut]; exact hml
    · rw [dl_app j (p + 2), dl_u (by omega), dl_u (by omega), fr_v f1 (by omega), Nat.zero_add, cut] at e'
      rw [dl_s, f' (64 + j) (by omega), dn_us, show j + 1 + (p + 2) = j + (p + 3) by omega, dl_app j (p + 3), Nat.zero_add]
      exact qd_ e' rfl
    · rw [f' k (by omega), dn_un (by omega), f1 k (by omega)]
theorem xq_32 {n : Nat} (hn : n ≤ 32) : ∀ (m k : Nat) (d : Nat → Nat), bd_ d → k + m = n →
    (∀ d', bd_ d' → (∀ j, k ≤ j → j < n → d' (64 + j) = d j) → fr_ d d' (64 + k) (64 + n) → wpX_cutLimbs (fun _ u => post u) (fS, fC, fA, fP, fW, fE, fN, fT, aL, aG, aC, aT, aO, aR, aA, aK, aH, aB, dn_A d') 64 32 (nI (d' 32))) →
    wX_quotient_32 post (nI n) fS fC fA fP fW fE fN fT (m + 1) (nI k) aL aG aC aT aO aR aA aK aH aB (dn_A d)
  | 0, k, d, hB, hi, K => pk_le n k (fun _ => K d hB (fun j _ _ => by omega) fr_r) (fun z => by omega)
  | m + 1, k, d, hB, hi, K => by
    refine pk_le n k (fun z => by omega) (fun _ => ⟨pk_in k 240 (by omega), pk_in (64 + k) 240 (by omega) (nI_add 64 k), nm_r (dn_st (64 + k) (d k) (nI_add 64 k) (dn_rd _ rfl (by omega)) (by omega)) (nm_r (nI_1 k) (xq_32 hn m (k + 1) _ (bd_u hB (hB _)) (by omega) (fun d' b' e' f' => K d' b' (fun j g1 g2 => ?_) (fr_k f' (by omega) (by omega) (by omega) (by omega)))))⟩)
    rcases Nat.eq_or_lt_of_le g1 with q | q
    · subst q; rw [f' (64 + k) (by omega), dn_us]
    · rw [e' j q g2, dn_un (by omega)]
/-- the number from 0 on divided by that from 32 on, cut -/
theorem x_quot {d : Nat → Nat} (hB : bd_ d) {N D : Nat} (eN : dl_v 10000 d 0 32 = N) (eD : dl_v 10000 d 32 32 = D) (hN : N < 10000 ^ 29) (hD : D < 10000 ^ 29) (hD0 : 0 < D)
    (K : ∀ d', bd_ d' → dl_v 10000 d' 64 32 = N / D → fr_ d d' 0 96 → post (fS, fC, fA, fP, fW, fE, fN, fT, aL, aG, aC, aT, aO, aR, aA, aK, aH, aB, dn_A d')) :
    wpX_quotient post (fS, fC, fA, fP, fW, fE, fN, fT, aL, aG, aC, aT, aO, aR, aA, aK, aH, aB, dn_A d) := by
  unfold wpX_quotient
  refine x_size hB 0 32 (by decide) (fun n hn en zn tn => x_size hB 32 32 (by decide) (fun m hm em zm tm => x_zero hB 64 32 (by decide) (fun d1 b1 z1 f1 => ?_)))
  rw [eN] at en
  rw [eD] at em
  have hm0 : 0 < m := by
    rcases Nat.eq_zero_or_pos m with z | z
    · rw [z, dl_0] at em; omega
    · exact z
  have hmt : 0 < d (32 + (m - 1)) := by omega
  have hm29 : m ≤ 29 := by
    rcases Nat.lt_or_ge 29 m with z | z
    · exfalso
      have := dl_ge (B := 10000) (d := d) (a := 32) (n := 32) (k := m - 1) (by omega) hmt
      have h2 : 10000 ^ 29 ≤ 10000 ^ (m - 1) := Nat.pow_le_pow_right (by decide) (by omega)
      omega
    · exact z
  have hn29 : n ≤ 29 := by
    rcases Nat.lt_or_ge 29 n with z | z
    · exfalso
      have := dl_ge (B := 10000) (d := d) (a := 0) (n := 32) (k := n - 1) (by omega) (by omega)
      have h2 : 10000 ^ 29 ≤ 10000 ^ (n - 1) := Nat.pow_le_pow_right (by decide) (by omega)
      omega
    · exact z
  have hDge : 10000 ^ (m - 1) ≤ D := by
    have := dl_ge (B := 10000) (d := d) (a := 32) (n := 32) (k := m - 1) (by omega) hmt
    omega
  have hNlt : N < 10000 ^ n := by rw [en]; exact dl_lt (fun k _ => b_of hB)
  have hN1 : dl_v 10000 d1 0 32 = N := by rw [← eN]; exact fr_v f1 (by decide)
  have hD1 : dl_v 10000 d1 32 32 = D := by rw [← eD]; exact fr_v f1 (by decide)
  refine pk_eq m 1 (fun z => ⟨n + 1, ?_⟩) (fun z => ?_)
  · subst z
    refine xq_32 hn n 0 d1 b1 (by omega) (fun d2 b2 e2 f2 => ?_)
    have hd : d2 32 = D := by
      rw [f2 32 (by omega), f1 32 (by omega), em, dl_low, dl_0]; rfl
    have hd2 := b2 32
    rw [hd] at hd2
    rw [hd]
    have hc : dl_v 10000 d2 64 32 = N := by
      rw [← eN]
      refine dl_congr (fun k hk => ?_)
      rw [Nat.zero_add]
      rcases Nat.lt_or_ge k n with y | y
      · rw [e2 k (by omega) y, f1 k (by omega)]
      · rw [f2 (64 + k) (by omega), z1 _ (by omega) (by omega)]
        have := zn k y hk
        rw [Nat.zero_add] at this
        exact this.symm
    refine x_cut b2 64 32 D (by decide) (by omega) hD0 (fun d3 b3 e3 f3 => K d3 b3 (by rw [e3, hc]) (fun j hj => ?_))
    rw [f3 j (by omega), f2 j (by omega), f1 j (by omega)]
  · obtain ⟨p, rfl⟩ : ∃ p, m = p + 2 := ⟨m - 2, by omega⟩
    have hmt' : 0 < d (32 + (p + 1)) := hmt
    have htop : d1 (32 + (p + 1)) = d (32 + (p + 1)) := f1 _ (by omega)
    have i1 : (32 : Int32) + nI (p + 2) - 1 = nI (32 + (p + 1)) := ni_am 32 (p + 1)
    have rd : dn_A d1 ((32 : Int32) + nI (p + 2) - 1).toNatClampNeg = nI (d (32 + (p + 1))) := by rw [dn_rd _ i1 (by omega), htop]
    have t9 := hB (32 + (p + 1))
    generalize et : d (32 + (p + 1)) = t at *
    have hs : 0 < 10000 / (t + 1) := Nat.div_pos (by omega) (by omega)
    have hs2 : 10000 / (t + 1) ≤ 10000 := Nat.div_le_self _ _
    have hs3 : 10000 / (t + 1) * (t + 1) ≤ 10000 := Nat.div_mul_le_self _ _
    have hDt : D < 10000 ^ (p + 1) * (t + 1) := by
      rw [em, show p + 2 = p + 1 + 1 from rfl, dl_s, et]
      have := dl_lt (B := 10000) (d := d) (a := 32) (n := p + 1) (fun k _ => b_of hB)
      rw [Nat.mul_add, Nat.mul_comm t]
      omega
    refine ⟨pk_in _ 240 (by omega) i1, ?_⟩
    rw [rd, nI_1]
    refine ⟨nI_ne0 (by omega) (by omega), nm_r (pk_div (a := 10000) (by decide) (by omega) (by omega)) ?_⟩
    generalize 10000 / (t + 1) = s at *
    have hDs : D * s < 10000 ^ (p + 2) := by
      have h1 : D * s < 10000 ^ (p + 1) * (t + 1) * s := Nat.mul_lt_mul_of_pos_right hDt hs
      have h2 : 10000 ^ (p + 1) * (s * (t + 1)) ≤ 10000 ^ (p + 1) * 10000 := Nat.mul_le_mul_left _ hs3
      rw [Nat.mul_assoc, Nat.mul_comm (t + 1) s] at h1
      rw [Nat.pow_succ 10000 (p + 1)]
      omega
    have hNs : N * s < 10000 ^ (n + 1) := by
      rw [Nat.pow_succ]
      exact Nat.lt_of_lt_of_le (Nat.mul_lt_mul_of_pos_right hNlt hs) (Nat.mul_le_mul_left _ hs2)
    have hNs2 : N * s < 10000 ^ 32 := Nat.lt_of_lt_of_le hNs (Nat.pow_le_pow_right (by decide) (by omega))
    have hDs2 : D * s < 10000 ^ 32 := Nat.lt_of_lt_of_le hDs (Nat.pow_le_pow_right (by decide) (by omega))
    have hDle : D ≤ D * s := Nat.le_mul_of_pos_right D hs
    refine x_scale b1 0 32 s (by decide) hs2 hs (by rw [hN1]; exact hNs2) (fun d2 b2 e2 f2 => ?_)
    rw [hN1] at e2
    refine x_scale b2 32 32 s (by decide) hs2 hs (by rw [fr_v f2 (by decide), hD1]; exact hDs2) (fun d3 b3 e3 f3 => ?_)
    rw [fr_v f2 (by decide), hD1] at e3
    have e4 : dl_v 10000 d3 0 32 = N * s := by rw [fr_v f3 (by decide), e2]
    have z3 : ∀ j, 64 ≤ j → j < 96 → d3 j = 0 := fun j h1 h2 => by rw [f3 j (by omega), f2 j (by omega), z1 j (by omega) (by omega)]
    have F3 : ∀ j, 96 ≤ j → d3 j = d j := fun j h1 => by rw [f3 j (by omega), f2 j (by omega), f1 j (by omega)]
    rcases Nat.lt_or_ge n (p + 2) with lt | ge
    · refine nm_e ⟨1, br_t (pk_sneg (by omega) lt) (K d3 b3 ?_ (fun j hj => F3 j (by omega)))⟩
      rw [dl_z (fun k hk => z3 _ (by omega) (by omega))]
      have : 10000 ^ n ≤ 10000 ^ (p + 2 - 1) := Nat.pow_le_pow_right (by decide) (by omega)
      exact (Nat.div_eq_of_lt (by omega)).symm
    · have eV : dl_v 10000 d3 32 (p + 2) = D * s := by
        rw [← e3]; exact (dl_cut (by decide) (by omega) (by rw [e3]; exact hDs)).symm
      have tz : ∀ k, p + 2 ≤ k → k < 32 → d3 (32 + k) = 0 := dl_top (B := 10000) (by decide) (by omega) (by rw [e3]; exact hDs)
      have tp : 0 < d3 (32 + (p + 1)) := by
        rcases Nat.eq_zero_or_pos (d3 (32 + (p + 1))) with y | y
        · exfalso
          rw [show p + 2 = p + 1 + 1 from rfl, dl_s, y, Nat.zero_mul, Nat.add_zero] at eV
          have := dl_lt (B := 10000) (d := d3) (a := 32) (n := p + 1) (fun k _ => b_of b3)
          rw [show p + 2 - 1 = p + 1 from rfl] at hDge
          omega
        · exact y
      obtain ⟨g, rfl⟩ : ∃ g, n = g + (p + 2) := ⟨n - (p + 2), by omega⟩
      have ez : ∀ k, g + (p + 2) + 1 ≤ k → k < 32 → d3 (0 + k) = 0 := dl_top (B := 10000) (by decide) (by omega) (by rw [e4]; exact hNs)
      have eN1 : dl_v 10000 d3 0 (g + 1 + (p + 2)) = N * s := by
        rw [← e4]; exact (dl_cut (by decide) (by omega) (by rw [e4, show g + 1 + (p + 2) = g + (p + 2) + 1 by omega]; exact hNs)).symm
      have hc : dl_v 10000 d3 (g + 1) (p + 2) < D * s := by
        rw [dl_app (g + 1) (p + 2), Nat.zero_add] at eN1
        have h1 : 10000 ^ (g + 1) * dl_v 10000 d3 (g + 1) (p + 2) < 10000 ^ (g + 1) * (D * s) := by
          refine Nat.lt_of_le_of_lt (Nat.le_add_left _ _) (Nat.lt_of_le_of_lt (Nat.le_of_eq eN1) ?_)
          rw [← Nat.mul_assoc]
          refine Nat.mul_lt_mul_of_pos_right (Nat.lt_of_lt_of_le hNlt ?_) hs
          rw [show g + (p + 2) = g + 1 + (p + 1) by omega, Nat.pow_add]
          exact Nat.mul_le_mul_left _ hDge
        exact Nat.lt_of_mul_lt_mul_left h1
      refine nm_r (e' := nI (g + 1) + (-1)) (by rw [pk_m1, pk_sub (by omega), Nat.add_sub_cancel]) ⟨g + 1 + 1, xq_l hDs (g + 1) d3 b3 (by omega) eV (tz _ (by omega) (by omega)) tp (fun k k1 k2 => ?_) hc (fun d' R b' e' l' f' => K d' b' ?_ (fun j hj => ?_))⟩
      · have := ez k (by omega) k2
        rwa [Nat.zero_add] at this
      · rw [dl_ext (m := g + 1) (by omega) (fun k k1 k2 => by rw [f' _ (by omega), z3 _ (by omega) (by omega)])]
        rw [eN1] at e'
        generalize dl_v 10000 d' 64 (g + 1) = Q at *
        have h1 : Q * D ≤ N := by
          have : Q * D * s ≤ N * s := by rw [Nat.mul_assoc]; omega
          exact Nat.le_of_mul_le_mul_right this hs
        have h2 : N < (Q + 1) * D := by
          have : N * s < (Q + 1) * D * s := by rw [Nat.mul_assoc, Nat.add_mul, Nat.one_mul]; omega
          exact Nat.lt_of_mul_lt_mul_right this
        exact (Nat.div_eq_of_lt_le h1 h2).symm
      · rw [f' j (by omega), F3 j (by omega)]
end
end
section
/-! roots -/
def sq_ : Nat → Nat
  | 0 => 0
  | n + 1 => if (sq_ n + 1) * (sq_ n + 1) ≤ n + 1 then sq_ n + 1 else sq_ n
theorem sq_s (n : Nat) : sq_ (n + 1) = if (sq_ n + 1) * (sq_ n + 1) ≤ n + 1 then sq_ n + 1 else sq_ n := rfl
theorem sq_b : ∀ n : Nat, sq_ n * sq_ n ≤ n ∧ n < (sq_ n + 1) * (sq_ n + 1)
  | 0 => ⟨Nat.le_refl _, Nat.one_pos⟩
  | n + 1 => by
    have h := sq_b n
    rw [sq_s]
    by_cases z : (sq_ n + 1) * (sq_ n + 1) ≤ n + 1
    · rw [if_pos z]
      refine ⟨z, ?_⟩
      have : (sq_ n + 1) * (sq_ n + 1) < (sq_ n + 1 + 1) * (sq_ n + 1 + 1) := Nat.mul_lt_mul'' (by omega) (by omega)
      omega
    · rw [if_neg z]
      omega
theorem sq_u {n r : Nat} (h1 : r * r ≤ n) (h2 : n < (r + 1) * (r + 1)) : r = sq_ n := by
  have h := sq_b n
  rcases Nat.lt_trichotomy r (sq_ n) with z | z | z
  · have := Nat.mul_le_mul (show r + 1 ≤ sq_ n from z) (show r + 1 ≤ sq_ n from z)
    omega
  · exact z
  · have := Nat.mul_le_mul (show sq_ n + 1 ≤ r from z) (show sq_ n + 1 ≤ r from z)
    omega
theorem nw_ge {N x r : Nat} (h : r * r ≤ N) (hx : r ≤ x) (x0 : 0 < x) : r ≤ (x + N / x) / 2 := by
  obtain ⟨t, rfl⟩ : ∃ t, x = r + t := ⟨x - r, by omega⟩
  rcases Nat.lt_or_ge t r with z | z
  · obtain ⟨u, rfl⟩ : ∃ u, r = u + t := ⟨r - t, by omega⟩
    have h1 : u ≤ N / (u + t + t) := by
      rw [Nat.le_div_iff_mul_le x0]
      refine Nat.le_trans ?_ h
      rw [Nat.mul_add, Nat.mul_add, Nat.add_mul, Nat.mul_add, Nat.mul_add, Nat.mul_comm t u]
      omega
    generalize N / (u + t + t) = w at *
    omega
  · generalize N / (r + t) = w at *
    omega
theorem nw_eq {N x r : Nat} (h : N < (r + 1) * (r + 1)) (hx : r ≤ x) (x0 : 0 < x) (h2 : x ≤ (x + N / x) / 2) : x = r := by
  have h3 : x ≤ N / x := by omega
  rw [Nat.le_div_iff_mul_le x0] at h3
  rcases Nat.lt_or_ge r x with z | z
  · have := Nat.mul_le_mul (show r + 1 ≤ x from z) (show r + 1 ≤ x from z)
    omega
  · omega
section
variable {fS fC fA fP fW fE fN fT : Int32} {aL aG aC aT aO aR aA aK aH aB aW : Nat → Int32}
variable {post : SX → Prop} {pr : Int32 → SX → Prop} {pi : Int32 → Prop}
theorem xr_l {N : Nat} (hN : N < 10000 ^ 20) (hN0 : 0 < N)
    (K : ∀ d', bd_ d' → dl_v 10000 d' 128 32 = sq_ N → post (fS, fC, fA, fP, fW, fE, fN, fT, aL, aG, aC, aT, aO, aR, aA, aK, aH, aB, dn_A d')) :
    ∀ (f x : Nat) (d : Nat → Nat), bd_ d → dl_v 10000 d 96 32 = N → dl_v 10000 d 128 32 = x → sq_ N ≤ x → 0 < x → x < 10000 ^ 11 → x < f →
    wX_squareRoot_40 post (f + 1) 1 fS fC fA fP fW fE fN fT aL aG aC aT aO aR aA aK aH aB (dn_A d)
  | 0, x, d, hB, e1, e2, hx, x0, hx2, hf => by omega
  | f + 1, x, d, hB, e1, e2, hx, x0, hx2, hf => by
    have hb := sq_b N
    refine br_f (by decide) (x_copyL hB 96 0 32 (by decide) (by decide) (by decide) (fun d1 b1 v1 f1 => x_copyL b1 128 32 32 (by decide) (by decide) (by decide) (fun d2 b2 v2 f2 => ?_)))
    rw [e1] at v1
    rw [fr_v f1 (by decide), e2] at v2
    have hNx : N / x ≤ N := Nat.div_le_self N x
    have p1 : (10000 : Nat) ^ 20 + 10000 ^ 11 < 10000 ^ 29 := by decide
    have p2 : (10000 : Nat) ^ 29 < 10000 ^ 32 := by decide
    refine x_quot b2 (N := N) (D := x) (by rw [fr_v f2 (by decide), v1]) v2 (by omega) (by omega) x0 (fun d3 b3 v3 f3 => ?_)
    have w3 : dl_v 10000 d3 128 31 = x := by
      have h1 : dl_v 10000 d3 128 32 = x := by rw [fr_v f3 (by decide), fr_v f2 (by decide), fr_v f1 (by decide), e2]
      rw [← h1]
      refine (dl_cut (by decide) (by decide) ?_).symm
      rw [h1]
      exact Nat.lt_trans hx2 (by decide)
    refine x_plus b3 64 128 31 32 (by decide) (by decide) (by decide) (by decide) (by rw [v3, w3]; omega) (fun d4 b4 v4 f4 => ?_)
    rw [v3, w3] at v4
    refine x_cut b4 64 32 2 (by decide) (by decide) (by decide) (fun d5 b5 v5 f5 => ?_)
    rw [v4] at v5
    have w5 : dl_v 10000 d5 128 32 = x := by
      rw [fr_v f5 (by decide), fr_v f4 (by decide), fr_v f3 (by decide), fr_v f2 (by decide), fr_v f1 (by decide), e2]
    have u5 : dl_v 10000 d5 96 32 = N := by
      rw [fr_v f5 (by decide), fr_v f4 (by decide), fr_v f3 (by decide), fr_v f2 (by decide), fr_v f1 (by decide), e1]
    have hge := nw_ge hb.1 hx x0
    rw [Nat.add_comm] at hge
    refine x_order b5 64 128 (by decide) (by decide) ?_
    rw [v5, w5]
    generalize hy : (N / x + x) / 2 = y at *
    rcases Nat.lt_or_ge y x with lt | ge
    · rw [cm_lt lt]
      refine br_f (by decide) (br_f (by decide) (x_copyL b5 64 128 32 (by decide) (by decide) (by decide) (fun d6 b6 v6 f6 => ?_)))
      refine xr_l hN hN0 K f y d6 b6 (by rw [fr_v f6 (by decide), u5]) (by rw [v6, v5]) hge ?_ (by omega) (by omega)
      have : 0 < sq_ N := by
        rcases Nat.eq_zero_or_pos (sq_ N) with z | z
        · rw [z] at hb; omega
        · exact z
      omega
    · have h0 : (0 : Int32) ≤ cm_ y x := by
        rcases Nat.eq_or_lt_of_le ge with z | z
        · rw [cm_eq z.symm]; decide
        · rw [cm_gt z]; decide
      refine br_t h0 (br_t rfl ?_)
      have hxr : x = sq_ N := nw_eq hb.2 hx x0 (by rw [Nat.add_comm, hy]; exact ge)
      exact br_t rfl (K d5 b5 (by rw [w5, ← hxr]))
theorem x_sqrt {d : Nat → Nat} (hB : bd_ d) {N : Nat} (eN : dl_v 10000 d 96 32 = N) (hN : N < 10000 ^ 20)
    (K : ∀ d', bd_ d' → dl_v 10000 d' 128 32 = sq_ N → post (fS, fC, fA, fP, fW, fE, fN, fT, aL, aG, aC, aT, aO, aR, aA, aK, aH, aB, dn_A d')) : wpX_squareRoot post (fS, fC, fA, fP, fW, fE, fN, fT, aL, aG, aC, aT, aO, aR, aA, aK, aH, aB, dn_A d) := by
  unfold wpX_squareRoot
  refine x_size hB 96 32 (by decide) (fun n hn en zn tn => x_zero hB 128 32 (by decide) (fun d1 b1 z1 f1 => ?_))
  rw [eN] at en
  refine pk_eq n 0 (fun z => K d1 b1 ?_) (fun z => ?_)
  · subst z
    rw [dl_0] at en
    rw [en, dl_z (fun k hk => z1 _ (by omega) (by omega))]; rfl
  · have hn20 : n ≤ 20 := by
      rcases Nat.lt_or_ge 20 n with z | z
      · exfalso
        have := dl_ge (B := 10000) (d := d) (a := 96) (n := 32) (k := n - 1) (by omega) (by omega)
        have h2 : 10000 ^ 20 ≤ 10000 ^ (n - 1) := Nat.pow_le_pow_right (by decide) (by omega)
        omega
      · exact z
    have hN0 : 0 < N := by
      have := dl_ge (B := 10000) (d := d) (a := 96) (n := 32) (k := n - 1) (by omega) (by omega)
      have h2 : 0 < 10000 ^ (n - 1) := Nat.pow_pos (by decide)
      omega
    have hNn : N < 10000 ^ n := by rw [en]; exact dl_lt (fun k _ => b_of hB)
    have hs : (nI n + 1) >>> ((1 : Int32) &&& 31) = nI ((n + 1) / 2) := by
      rw [nI_1]; exact pk_shrN (by omega) _ 1 (by decide)
    rw [hs]
    generalize hh : (n + 1) / 2 = h
    have ev : dl_v 10000 (dn_u d1 (128 + h) 1) 128 32 = 10000 ^ h := by
      rw [dl_ext (m := h + 1) (by omega) (fun k k1 k2 => by rw [dn_un (by omega), z1 _ (by omega) (by omega)]), dl_us, dl_z (fun k hk => z1 _ (by omega) (by omega))]
      omega
    have hp : 0 < 10000 ^ h := Nat.pow_pos (by decide)
    refine ⟨pk_in (128 + h) 240 (by omega) (nI_add 128 h), nm_r (dn_st (128 + h) 1 (nI_add 128 h) rfl (by omega)) ⟨10000 ^ h + 1 + 1, xr_l hN hN0 K (10000 ^ h + 1) (10000 ^ h) _ (bd_u b1 (by decide)) ?_ ev ?_ hp ?_ (by omega)⟩⟩
    · rw [dl_u (by omega), fr_v f1 (by decide), eN]
    · have hb := sq_b N
      rcases Nat.lt_or_ge (10000 ^ h) (sq_ N) with z | z
      · exfalso
        have h1 := Nat.mul_le_mul (Nat.le_of_lt z) (Nat.le_of_lt z)
        rw [← Nat.pow_add] at h1
        have h2 : 10000 ^ n ≤ 10000 ^ (h + h) := Nat.pow_le_pow_right (by decide) (by omega)
        omega
      · exact z
    · exact Nat.pow_lt_pow_right (by decide) (by omega)
end
end
section
/-! the register file: values, signs, scales -/
abbrev RR_ : Type := (Nat → Nat) × (Nat → Int32) × (Nat → Nat)
def sn_ (x : Int32) : Prop := x = -1 ∨ x = 0 ∨ x = 1
def wf_ (R : RR_) : Prop := ∀ r, R.1 r < 10 ^ 40 ∧ sn_ (R.2.1 r) ∧ (R.2.1 r = 0 ↔ R.1 r = 0) ∧ R.2.2 r ≤ 20
/-- what a store makes of the file, and what it answers -/
def st_R (R : RR_) (t m : Nat) (s : Int32) (c : Nat) : RR_ := (dn_u R.1 t m, upd R.2.1 t (if m = 0 then 0 else s), dn_u R.2.2 t c)
def sr_ (R : RR_) (t m : Nat) (s : Int32) (c : Nat) : RR_ := if 10 ^ 40 ≤ m ∨ 20 < c then R else st_R R t m s c
def sa_ (m : Nat) (s : Int32) (c : Nat) : Int32 := if 10 ^ 40 ≤ m ∨ 20 < c then -8 else if m = 0 then 0 else s
def dp_ (R : RR_) (f t : Nat) : RR_ := (dn_u R.1 t (R.1 f), upd R.2.1 t (R.2.1 f), dn_u R.2.2 t (R.2.2 f))
theorem na_s {v : Nat} (h : v < 10000) : (nI v).toInt16.toInt32 = nI v := lg_i2s_small (by rw [nI_toInt (by omega)]; omega) (by rw [nI_toInt (by omega)]; omega)
theorem na_b {v : Nat} (h : v < 128) : (nI v).toInt8.toInt32 = nI v := lg_i2b_small (by rw [nI_toInt (by omega)]; omega) (by rw [nI_toInt (by omega)]; omega)
theorem na_ss {v : Nat} (h : v < 10000) : vp_nar .short (nI v).toInt16.toInt32 = nI v := by rw [vp_nar_short, na_s h, na_s h]
theorem na_s1 {v : Nat} (h : v < 10000) : vp_nar .short (nI v) = nI v := by rw [vp_nar_short, na_s h]
theorem na_bb {v : Nat} (h : v < 128) : vp_nar .byte (nI v).toInt8.toInt32 = nI v := by rw [vp_nar_byte, na_b h, na_b h]
theorem na_b1 {v : Nat} (h : v < 128) : vp_nar .byte (nI v) = nI v := by rw [vp_nar_byte, na_b h]
theorem na_g {x : Int32} (h : sn_ x) : vp_nar .byte x.toInt8.toInt32 = x := by
  rcases h with e | e | e <;> subst e <;> rw [vp_nar_byte] <;> decide
theorem na_g1 {x : Int32} (h : sn_ x) : vp_nar .byte x = x := by
  rcases h with e | e | e <;> subst e <;> rw [vp_nar_byte] <;> decide
theorem sn_0 : sn_ 0 := Or.inr (Or.inl rfl)
theorem sn_1 : sn_ 1 := Or.inr (Or.inr rfl)
theorem sn_m : sn_ (-1) := Or.inl rfl
theorem sn_neg {x : Int32} (h : sn_ x) : sn_ (-x) := by
  rcases h with e | e | e <;> subst e
  · exact sn_1
  · exact sn_0
  · exact sn_m
theorem sn_mul {x y : Int32} (h : sn_ x) (g : sn_ y) : sn_ (x * y) := by
  rcases h with e | e | e <;> subst e <;> rcases g with e | e | e <;> subst e <;> (unfold sn_; decide)
theorem wf_st {R : RR_} (h : wf_ R) {t m : Nat} {s : Int32} {c : Nat} (hm : m < 10 ^ 40) (hs : sn_ s) (h0 : m ≠ 0 → s ≠ 0) (hc : c ≤ 20) : wf_ (st_R R t m s c) := by
  intro r
  unfold st_R
  by_cases z : r = t
  · subst z
    show dn_u R.1 r m r < 10 ^ 40 ∧ sn_ (upd R.2.1 r _ r) ∧ (upd R.2.1 r _ r = 0 ↔ dn_u R.1 r m r = 0) ∧ dn_u R.2.2 r c r ≤ 20
    rw [dn_us, dn_us, pk_us]
    by_cases y : m = 0
    · rw [if_pos y]; exact ⟨hm, sn_0, ⟨fun _ => y, fun _ => rfl⟩, hc⟩
    · rw [if_neg y]; exact ⟨hm, hs, ⟨fun e => absurd e (h0 y), fun e => absurd e y⟩, hc⟩
  · show dn_u R.1 t m r < 10 ^ 40 ∧ sn_ (upd R.2.1 t _ r) ∧ (upd R.2.1 t _ r = 0 ↔ dn_u R.1 t m r = 0) ∧ dn_u R.2.2 t c r ≤ 20
    rw [dn_un z, dn_un z, pk_un z]; exact h r
theorem wf_sr {R : RR_} (h : wf_ R) {t m : Nat} {s : Int32} {c : Nat} (hs : sn_ s) (h0 : m ≠ 0 → s ≠ 0) : wf_ (sr_ R t m s c) := by
  unfold sr_
  by_cases z : 10 ^ 40 ≤ m ∨ 20 < c
  · rw [if_pos z]; exact h
  · rw [if_neg z]; exact wf_st h (by omega) hs h0 (by omega)
theorem wf_dp {R : RR_} (h : wf_ R) {f t : Nat} : wf_ (dp_ R f t) := by
  intro r
  unfold dp_
  by_cases z : r = t
  · subst z
    show dn_u R.1 r _ r < 10 ^ 40 ∧ sn_ (upd R.2.1 r _ r) ∧ (upd R.2.1 r _ r = 0 ↔ dn_u R.1 r _ r = 0) ∧ dn_u R.2.2 r _ r ≤ 20
    rw [dn_us, dn_us, pk_us]; exact h f
  · show dn_u R.1 t _ r < 10 ^ 40 ∧ sn_ (upd R.2.1 t _ r) ∧ (upd R.2.1 t _ r = 0 ↔ dn_u R.1 t _ r = 0) ∧ dn_u R.2.2 t _ r ≤ 20
    rw [dn_un z, dn_un z, pk_un z]; exact h r
/-- the limbs of a file in which one value is changed -/
theorem rg_lu {v l : Nat → Nat} {t m : Nat} (h1 : ∀ j, j < 10 → l (t * 10 + j) = m / 10000 ^ j % 10000) (h2 : ∀ j, (j < t * 10 ∨ t * 10 + 10 ≤ j) → l j = rg_l v j) : l = rg_l (dn_u v t m) := by
  funext j
  unfold rg_l
  by_cases z : j / 10 = t
  · have e := h1 (j % 10) (Nat.mod_lt _ (by decide))
    rw [show t * 10 + j % 10 = j by omega] at e
    rw [e, z, dn_us]
  · rw [h2 j (by omega), dn_un z]; rfl
theorem rg_lb {v : Nat → Nat} {j : Nat} : rg_l v j < 10000 := Nat.mod_lt _ (by decide)
section
variable {fS fC fA fP fW fE fN fT : Int32} {aL aG aC aT aO aR aA aK aH aB aW : Nat → Int32}
variable {post : SX → Prop} {pr : Int32 → SX → Prop} {pi : Int32 → Prop}
theorem xs_79 {R : RR_} {d : Nat → Nat} {t c : Nat} {s : Int32} {l : Nat → Int32} (ht : t < 28) (hc : c ≤ 20) (hs : sn_ s)
    (K : pr s (fS, fC, fA, fP, fW, fE, fN, fT, l, upd R.2.1 t s, dn_A (dn_u R.2.2 t c), aT, aO, aR, aA, aK, aH, aB, dn_A d)) :
    wX_store_79 pr (nI t) (nI c) s (nI t) fS fC fA fP fW fE fN fT l R.2.1 (dn_A R.2.2) aT aO aR aA aK aH aB (dn_A d) := by
  have i1 : vp_in (nI t) 28 := pk_in t 28 ht
  refine ⟨i1, nm_r (e' := upd R.2.1 t s) (by rw [nI_clamp (by omega), na_g hs]) ⟨i1, nm_r (dn_st t c rfl (na_bb (by omega)) (by omega)) ⟨i1, ?_⟩⟩⟩
  rw [nI_clamp (by omega), pk_us]
  exact K
theorem xs_28 {R : RR_} {d : Nat → Nat} (hB : bd_ d) {t a c k : Nat} {s : Int32} (ht : t < 28) (ha : a + 10 ≤ 240) :
    ∀ (m j : Nat) (l : Nat → Nat), j + m = 10 →
    (∀ l', (∀ i, j ≤ i → i < 10 → l' (t * 10 + i) = d (a + i)) → (∀ i, (i < t * 10 + j ∨ t * 10 + 10 ≤ i) → l' i = l i) →
      ((nI k = 0 → wX_store_79 pr (nI t) (nI c) 0 (nI t) fS fC fA fP fW fE fN fT (dn_A l') R.2.1 (dn_A R.2.2) aT aO aR aA aK aH aB (dn_A d)) ∧ (¬ nI k = 0 → wX_store_79 pr (nI t) (nI c) s (nI t) fS fC fA fP fW fE fN fT (dn_A l') R.2.1 (dn_A R.2.2) aT aO aR aA aK aH aB (dn_A d)))) →
    wX_store_28 pr (nI t) (nI a) s (nI c) (nI k) fS fC fA fP fW fE fN fT (m + 1) (nI j) (dn_A l) R.2.1 (dn_A R.2.2) aT aO aR aA aK aH aB (dn_A d)
  | 0, j, l, hj, K => pk_le 10 j (fun _ => K l (fun i _ _ => by omega) (fun i _ => rfl)) (fun z => by omega)
  | m + 1, j, l, hj, K => by
    refine pk_le 10 j (fun z => by omega) (fun _ => ⟨pk_in (a + j) 240 (by omega) (nI_add _ _), pk_in (t * 10 + j) 280 (by omega) (ni_ma t 10 j), nm_r (dn_st (t * 10 + j) (d (a + j)) (ni_ma t 10 j) (by rw [dn_rd _ (nI_add _ _) (by omega), na_ss (hB _)]) (by omega))
      (nm_r (nI_1 j) (xs_28 hB ht ha m (j + 1) _ (by omega) (fun l' e' f' => K l' (fun i g1 g2 => ?_) (fun i hi => ?_))))⟩)
    · rcases Nat.eq_or_lt_of_le g1 with q | q
      · subst q; rw [f' _ (by omega), dn_us]
      · exact e' i q g2
    · rw [f' i (by omega), dn_un (by omega)]
theorem x_store {R : RR_} {d : Nat → Nat} (hB : bd_ d) (t a n c : Nat) {s : Int32} (ht : t < 28) (ha : a + n ≤ 240) (hn : 10 ≤ n) (hs : sn_ s) (hc : c < 1000)
    (K : pr (sa_ (dl_v 10000 d a n) s c) (fS, fC, fA, fP, fW, fE, fN, fT, dn_A (rg_l (sr_ R t (dl_v 10000 d a n) s c).1), (sr_ R t (dl_v 10000 d a n) s c).2.1, dn_A (sr_ R t (dl_v 10000 d a n) s c).2.2, aT, aO, aR, aA, aK, aH, aB, dn_A d)) :
    wpX_store pr (fS, fC, fA, fP, fW, fE, fN, fT, dn_A (rg_l R.1), R.2.1, dn_A R.2.2, aT, aO, aR, aA, aK, aH, aB, dn_A d) (nI t) (nI a) (nI n) s (nI c) := by
  unfold wpX_store
  refine x_size hB a n ha (fun k hk ek zk tk => ?_)
  have e40 : (10000 : Nat) ^ 10 = 10 ^ 40 := by decide
  generalize em : dl_v 10000 d a n = m at *
  refine pk_lt 10 k (fun z => ?_) (fun z => pk_le c 20 (fun y => ⟨11, ?_⟩) (fun y => ?_))
  · have hge : 10 ^ 40 ≤ m := by
      have h1 := dl_ge (B := 10000) (d := d) (a := a) (n := n) (k := k - 1) (by omega) (by omega)
      have h2 : 10000 ^ 10 ≤ 10000 ^ (k - 1) := Nat.pow_le_pow_right (by decide) (by omega)
      rw [em] at h1
      omega
    unfold sa_ sr_ at K
    rw [if_pos (Or.inl hge), if_pos (Or.inl hge)] at K
    exact K
  · have hlt : m < 10 ^ 40 := by
      have h1 := dl_lt (B := 10000) (d := d) (a := a) (n := k) (fun j _ => b_of hB)
      have h2 : 10000 ^ k ≤ 10000 ^ 10 := Nat.pow_le_pow_right (by decide) (by omega)
      omega
    have em10 : dl_v 10000 d a 10 = m := by
      rw [ek]; exact dl_ext z (fun i i1 i2 => zk i i1 (by omega))
    have hno : ¬ (10 ^ 40 ≤ m ∨ 20 < c) := by omega
    unfold sa_ sr_ st_R at K
    rw [if_neg hno, if_neg hno] at K
    refine xs_28 hB ht (by omega) 10 0 _ (by omega) (fun l' e' f' => ?_)
    have el : l' = rg_l (dn_u R.1 t m) := rg_lu (fun j hj => by
      rw [e' j (by omega) hj, ← em10]; exact dl_dig (fun i _ => b_of hB) hj) (fun j hj => f' j (by omega))
    subst el
    refine pk_eq k 0 (fun x => ?_) (fun x => ?_)
    · have m0 : m = 0 := by rw [ek, x, dl_0]
      rw [if_pos m0] at K
      exact xs_79 ht y sn_0 K
    · have m0 : ¬ m = 0 := by
        intro e
        have h1 := dl_ge (B := 10000) (d := d) (a := a) (n := n) (k := k - 1) (by omega) (by omega)
        have h2 : 0 < 10000 ^ (k - 1) := Nat.pow_pos (by decide)
        omega
      rw [if_neg m0] at K
      exact xs_79 ht y hs K
  · unfold sa_ sr_ at K
    rw [if_pos (Or.inr y), if_pos (Or.inr y)] at K
    exact K
end
end
section
/-! what the calls do to the register file, and the component's side of it -/
def so_ (R : RR_) (t m : Nat) (s : Int32) (c : Nat) : Int32 × RR_ := (sa_ m s c, sr_ R t m s c)
/-- the digits of a, brought to the scale s -/
def sh_ (R : RR_) (a s : Nat) : Nat := R.1 a * 10 ^ (s - R.2.2 a)
def mc_ (R : RR_) (a b : Nat) : Nat := max (R.2.2 a) (R.2.2 b)
def o_sum (R : RR_) (a b : Nat) (sb : Int32) (t : Nat) : Int32 × RR_ :=
  if R.2.1 a * sb < 0 then (if sh_ R a (mc_ R a b) < sh_ R b (mc_ R a b) then so_ R t (sh_ R b (mc_ R a b) - sh_ R a (mc_ R a b)) sb (mc_ R a b) else so_ R t (sh_ R a (mc_ R a b) - sh_ R b (mc_ R a b)) (R.2.1 a) (mc_ R a b))
  else so_ R t (sh_ R a (mc_ R a b) + sh_ R b (mc_ R a b)) (if R.2.1 a = 0 then sb else R.2.1 a) (mc_ R a b)
def o_cmp (R : RR_) (a b : Nat) : Int32 :=
  if R.2.1 a = R.2.1 b then (if 0 ≤ R.2.1 a then cm_ (sh_ R a (mc_ R a b)) (sh_ R b (mc_ R a b)) else -cm_ (sh_ R a (mc_ R a b)) (sh_ R b (mc_ R a b)))
  else if R.2.1 b ≤ R.2.1 a then 1 else -1
theorem pw_lt {v n k : Nat} (h : v < 10 ^ n) : v * 10 ^ k < 10 ^ (n + k) := by
  rw [Nat.pow_add]; exact Nat.mul_lt_mul_of_pos_right h (Nat.pow_pos (by decide))
theorem pw_le {v n k m : Nat} (h : v < 10 ^ n) (hm : n + k ≤ m) : v * 10 ^ k < 10 ^ m :=
  Nat.lt_of_lt_of_le (pw_lt h) (Nat.pow_le_pow_right (by decide) hm)
theorem p128 : (10000 : Nat) ^ 32 = 10 ^ 128 := by decide
theorem sh_lt {R : RR_} (h : wf_ R) {a s : Nat} (hs : s ≤ 20 + R.2.2 a) : sh_ R a s < 10 ^ 60 := pw_le (h a).1 (by omega)
theorem mc_a {R : RR_} (h : wf_ R) (a b : Nat) : R.2.2 a ≤ mc_ R a b ∧ R.2.2 b ≤ mc_ R a b ∧ mc_ R a b ≤ 20 := by
  have h1 := (h a).2.2.2
  have h2 := (h b).2.2.2
  unfold mc_
  omega
section
variable {fS fC fA fP fW fE fN fT : Int32} {aL aG aC aT aO aR aA aK aH aB aW : Nat → Int32}
variable {post : SX → Prop} {pr : Int32 → SX → Prop} {pi : Int32 → Prop}
theorem x_most (a b : Nat) (ha : a < 2 ^ 31) (hb : b < 2 ^ 31) (K : pi (nI (max a b))) : wpX_most pi (nI a) (nI b) := by
  refine pk_le a b (fun z => ?_) (fun z => ?_)
  · rw [Nat.max_eq_right z] at K; exact K
  · rw [Nat.max_eq_left (by omega)] at K; exact K
theorem x_least (a b : Nat) (ha : a < 2 ^ 31) (hb : b < 2 ^ 31) (K : pi (nI (min a b))) : wpX_least pi (nI a) (nI b) := by
  refine pk_le b a (fun z => ?_) (fun z => ?_)
  · rw [Nat.min_eq_right z] at K; exact K
  · rw [Nat.min_eq_left (by omega)] at K; exact K
theorem xd_2 {R : RR_} (h : wf_ R) {f t : Nat} (hf : f < 28) (ht : t < 28) : ∀ (m k : Nat) (l : Nat → Nat), k + m = 10 →
    (∀ j, j < 10 → k ≤ j → l (f * 10 + j) = rg_l R.1 (f * 10 + j)) → (∀ j, j < k → l (t * 10 + j) = rg_l R.1 (f * 10 + j)) → (∀ j, (j < t * 10 ∨ t * 10 + k ≤ j) → l j = rg_l R.1 j) → post (fS, fC, fA, fP, fW, fE, fN, fT, dn_A (rg_l (dp_ R f t).1), (dp_ R f t).2.1, dn_A (dp_ R f t).2.2, aT, aO, aR, aA, aK, aH, aB, aW) →
    wX_duplicate_2 post (nI f) (nI t) fS fC fA fP fW fE fN fT (m + 1) (nI k) (dn_A l) R.2.1 (dn_A R.2.2) aT aO aR aA aK aH aB aW
  | 0, k, l, hk, h1, h2, h3, K => by
    have e : k = 10 := by omega
    subst e
    have el : l = rg_l (dn_u R.1 t (R.1 f)) := rg_lu (fun j hj => by
      rw [h2 j hj]; unfold rg_l; rw [(rg_10 hj).1, (rg_10 hj).2]) (fun j hj => h3 j hj)
    subst el
    have i1 : vp_in (nI f) 28 := pk_in f 28 hf
    have i2 : vp_in (nI t) 28 := pk_in t 28 ht
    have g1 := (h f).2.1
    have g2 := (h f).2.2.2
    refine br_t (by decide) ⟨i1, i2, nm_r (e' := upd R.2.1 t (R.2.1 f)) (by rw [nI_clamp (by omega), nI_clamp (by omega), na_g1 g1]) ⟨i1, i2, nm_r (dn_st t (R.2.2 f) rfl (by rw [dn_rd f rfl (by omega), na_b1 (by omega)]) (by omega)) K⟩⟩
  | m + 1, k, l, hk, h1, h2, h3, K => by
    have hb : rg_l R.1 (f * 10 + k) < 10000 := rg_lb
    refine pk_le 10 k (fun z => by omega) (fun _ => ⟨pk_in (f * 10 + k) 280 (by omega) (ni_ma f 10 k), pk_in (t * 10 + k) 280 (by omega) (ni_ma t 10 k), nm_r (dn_st (t * 10 + k) (rg_l R.1 (f * 10 + k)) (ni_ma t 10 k) (by rw [dn_rd (x := nI f * 10 + nI k) _ (ni_ma f 10 k) (by omega), h1 k (by omega) (by omega), na_s1 hb]) (by omega))
      (nm_r (nI_1 k) (xd_2 h hf ht m (k + 1) _ (by omega) (fun j j1 j2 => ?_) (fun j j1 => ?_) (fun j j1 => ?_) K))⟩)
    · by_cases z : f * 10 + j = t * 10 + k
      · omega
      · rw [dn_un z]; exact h1 j j1 (by omega)
    · by_cases z : j = k
      · subst z; rw [dn_us]
      · rw [dn_un (by omega)]; exact h2 j (by omega)
    · rw [dn_un (by omega)]; exact h3 j (by omega)
theorem x_dup {R : RR_} (h : wf_ R) (f t : Nat) (hf : f < 28) (ht : t < 28) (K : post (fS, fC, fA, fP, fW, fE, fN, fT, dn_A (rg_l (dp_ R f t).1), (dp_ R f t).2.1, dn_A (dp_ R f t).2.2, aT, aO, aR, aA, aK, aH, aB, aW)) :
    wpX_duplicate post (fS, fC, fA, fP, fW, fE, fN, fT, dn_A (rg_l R.1), R.2.1, dn_A R.2.2, aT, aO, aR, aA, aK, aH, aB, aW) (nI f) (nI t) :=
  ⟨11, xd_2 h hf ht 10 0 _ rfl (fun j _ _ => rfl) (fun j hj => by omega) (fun j _ => rfl) K⟩
theorem xw_2 {R : RR_} {t v : Nat} (ht : t < 28) (hv : v < 1000) : ∀ (m k : Nat) (l : Nat → Nat), k + m = 10 →
    (∀ j, j < k → l (t * 10 + j) = 0) → (∀ j, (j < t * 10 ∨ t * 10 + k ≤ j) → l j = rg_l R.1 j) → post (fS, fC, fA, fP, fW, fE, fN, fT, dn_A (rg_l (st_R R t v 1 0).1), (st_R R t v 1 0).2.1, dn_A (st_R R t v 1 0).2.2, aT, aO, aR, aA, aK, aH, aB, aW) →
    wX_small_2 post (nI t) (nI v) fS fC fA fP fW fE fN fT (m + 1) (nI k) (dn_A l) R.2.1 (dn_A R.2.2) aT aO aR aA aK aH aB aW
  | 0, k, l, hk, h2, h3, K => by
    have e : k = 10 := by omega
    subst e
    have i2 : vp_in (nI t) 28 := pk_in t 28 ht
    have el : dn_u l (t * 10) v = rg_l (dn_u R.1 t v) := rg_lu (fun j hj => by
      by_cases z : j = 0
      · subst z; rw [Nat.add_zero, dn_us, Nat.pow_zero, Nat.div_one, Nat.mod_eq_of_lt (by omega)]
      · rw [dn_un (by omega), h2 j hj]
        have h5 : 10000 ^ 1 ≤ 10000 ^ j := Nat.pow_le_pow_right (by decide) (by omega)
        rw [Nat.div_eq_of_lt (by omega)]) (fun j hj => by rw [dn_un (by omega)]; exact h3 j hj)
    have go : ∀ s : Int32, s = (if v = 0 then 0 else 1) → wX_small_51 post (nI t) s (nI t) fS fC fA fP fW fE fN fT (dn_A (dn_u l (t * 10) v)) R.2.1 (dn_A R.2.2) aT aO aR aA aK aH aB aW := by
      intro s hs
      have hsn : sn_ s := by
        rw [hs]
        by_cases z : v = 0
        · rw [if_pos z]; exact sn_0
        · rw [if_neg z]; exact sn_1
      refine ⟨i2, nm_r (e' := upd R.2.1 t s) (by rw [nI_clamp (by omega), na_g hsn]) ⟨i2, nm_r (dn_st t 0 rfl (na_b1 (v := 0) (by decide)) (by omega)) ?_⟩⟩
      rw [el, hs]
      exact K
    refine br_t (by decide) ⟨pk_in (t * 10) 280 (by omega) (ni_m t 10), nm_r (dn_st (t * 10) v (ni_m t 10) (na_ss (by omega)) (by omega)) (pk_eq v 0 (fun z => go 0 (by rw [if_pos z])) (fun z => go 1 (by rw [if_neg z])))⟩
  | m + 1, k, l, hk, h2, h3, K => by
    refine pk_le 10 k (fun z => by omega) (fun _ => ⟨pk_in (t * 10 + k) 280 (by omega) (ni_ma t 10 k), nm_r (dn_st (t * 10 + k) 0 (ni_ma t 10 k) (na_s1 (v := 0) (by decide)) (by omega))
      (nm_r (nI_1 k) (xw_2 ht hv m (k + 1) _ (by omega) (fun j j1 => ?_) (fun j j1 => ?_) K))⟩)
    · by_cases z : j = k
      · subst z; rw [dn_us]
      · rw [dn_un (by omega)]; exact h2 j (by omega)
    · rw [dn_un (by omega)]; exact h3 j (by omega)
theorem x_small {R : RR_} (t v : Nat) (ht : t < 28) (hv : v < 1000) (K : post (fS, fC, fA, fP, fW, fE, fN, fT, dn_A (rg_l (st_R R t v 1 0).1), (st_R R t v 1 0).2.1, dn_A (st_R R t v 1 0).2.2, aT, aO, aR, aA, aK, aH, aB, aW)) :
    wpX_small post (fS, fC, fA, fP, fW, fE, fN, fT, dn_A (rg_l R.1), R.2.1, dn_A R.2.2, aT, aO, aR, aA, aK, aH, aB, aW) (nI t) (nI v) :=
  ⟨11, xw_2 ht hv 10 0 _ rfl (fun j hj => by omega) (fun j _ => rfl) K⟩
/-- a register's digits, 32 limbs -/
theorem x_ld {R : RR_} {d : Nat → Nat} (h : wf_ R) (hB : bd_ d) (r a : Nat) (hr : r < 28) (ha : a + 32 ≤ 240)
    (K : ∀ d', bd_ d' → dl_v 10000 d' a 32 = R.1 r → dl_v 10000 d' a 10 = R.1 r → fr_ d d' a (a + 32) → post (fS, fC, fA, fP, fW, fE, fN, fT, dn_A (rg_l R.1), R.2.1, dn_A R.2.2, aT, aO, aR, aA, aK, aH, aB, dn_A d')) :
    wpX_load post (fS, fC, fA, fP, fW, fE, fN, fT, dn_A (rg_l R.1), R.2.1, dn_A R.2.2, aT, aO, aR, aA, aK, aH, aB, dn_A d) (nI r) (nI a) :=
  x_load hB r a hr (h r).1 ha (fun d' b' e' z' f' => K d' b' (by rw [dl_ext (m := 10) (by decide) (fun k k1 k2 => z' _ (by omega) (by omega)), e']) e' f')
theorem x_align {R : RR_} {d : Nat → Nat} (h : wf_ R) (hB : bd_ d) (a b : Nat) (ha : a < 28) (hb : b < 28)
    (K : ∀ d', bd_ d' → dl_v 10000 d' 0 32 = sh_ R a (mc_ R a b) → dl_v 10000 d' 32 32 = sh_ R b (mc_ R a b) → pr (nI (mc_ R a b)) (fS, fC, fA, fP, fW, fE, fN, fT, dn_A (rg_l R.1), R.2.1, dn_A R.2.2, aT, aO, aR, aA, aK, aH, aB, dn_A d')) :
    wpX_align pr (fS, fC, fA, fP, fW, fE, fN, fT, dn_A (rg_l R.1), R.2.1, dn_A R.2.2, aT, aO, aR, aA, aK, aH, aB, dn_A d) (nI a) (nI b) := by
  have ra : (nI a).toNatClampNeg = a := nI_clamp (by omega)
  have rb : (nI b).toNatClampNeg = b := nI_clamp (by omega)
  have hm := mc_a h a b
  have i1 : vp_in (nI a) 28 := pk_in a 28 ha
  have i2 : vp_in (nI b) 28 := pk_in b 28 hb
  unfold wpX_align
  dsimp only
  rw [ra, rb]
  refine ⟨i1, i2, x_most (R.2.2 a) (R.2.2 b) (by omega) (by omega) (x_ld h hB a 0 ha (by decide) (fun d1 b1 e1 _ f1 => x_ld h b1 b 32 hb (by decide) (fun d2 b2 e2 _ f2 => ⟨i1, ?_⟩)))⟩
  have la := sh_lt h (a := a) (s := mc_ R a b) (by omega)
  have lb := sh_lt h (a := b) (s := mc_ R a b) (by omega)
  have p60 : (10 : Nat) ^ 60 < 10000 ^ 32 := by decide
  have s1 : nI (mc_ R a b) - nI (R.2.2 a) = nI (mc_ R a b - R.2.2 a) := pk_sub hm.1
  have s2 : nI (mc_ R a b) - nI (R.2.2 b) = nI (mc_ R a b - R.2.2 b) := pk_sub hm.2.1
  have q1 : dl_v 10000 d2 0 32 = R.1 a := by rw [fr_v f2 (by decide), e1]
  show wpX_up _ _ _ (nI (mc_ R a b) - nI (R.2.2 a))
  rw [s1]
  refine x_up b2 0 (mc_ R a b - R.2.2 a) (by decide) (by omega) (by rw [q1]; exact Nat.lt_trans la p60) (fun d3 b3 e3 f3 => ⟨i2, ?_⟩)
  show wpX_up _ _ _ (nI (mc_ R a b) - nI (R.2.2 b))
  rw [s2]
  have q2 : dl_v 10000 d3 32 32 = R.1 b := by rw [fr_v f3 (by decide), e2]
  refine x_up b3 32 (mc_ R a b - R.2.2 b) (by decide) (by omega) (by rw [q2]; exact Nat.lt_trans lb p60) (fun d4 b4 e4 f4 => K d4 b4 ?_ ?_)
  · rw [fr_v f4 (by decide), e3, q1]; rfl
  · rw [e4, q2]; rfl
end
end
section
/-! sum, order, product, quotient -/
def om_s (R : RR_) (sc a b : Nat) : Nat := min (R.2.2 a + R.2.2 b) (max (max (R.2.2 a) (R.2.2 b)) sc)
def o_mul (R : RR_) (sc a b t : Nat) : Int32 × RR_ := so_ R t (R.1 a * R.1 b / 10 ^ (R.2.2 a + R.2.2 b - om_s R sc a b)) (R.2.1 a * R.2.1 b) (om_s R sc a b)
def od_N (R : RR_) (sc a b : Nat) : Nat := R.1 a * 10 ^ (R.2.2 b + sc)
def od_D (R : RR_) (a b : Nat) : Nat := R.1 b * 10 ^ R.2.2 a
def o_div (R : RR_) (sc a b t : Nat) : Int32 × RR_ := if R.2.1 b = 0 then (-7, R) else so_ R t (od_N R sc a b / od_D R a b) (R.2.1 a * R.2.1 b) sc
def o_rem (R : RR_) (sc a b t : Nat) : Int32 × RR_ := if R.2.1 b = 0 then (-7, R) else so_ R t (od_N R sc a b % od_D R a b / 10 ^ min (R.2.2 a) (sc + R.2.2 b)) (R.2.1 a) (max (R.2.2 a) (sc + R.2.2 b))
theorem pw_pos (k : Nat) : 0 < 10 ^ k := Nat.pow_pos (by decide)
theorem rt_1 {x y a b c : Nat} (h : a + c = b) : x * 10 ^ a / y = x * 10 ^ b / (y * 10 ^ c) := by
  rw [← h, Nat.pow_add, ← Nat.mul_assoc, Nat.mul_div_mul_right _ _ (pw_pos c)]
theorem rt_2 {x y a b c : Nat} (h : a + b = c) : x / (y * 10 ^ a) = x * 10 ^ b / (y * 10 ^ c) := by
  rw [← h, Nat.pow_add, ← Nat.mul_assoc, Nat.mul_div_mul_right _ _ (pw_pos b)]
theorem ni_sle {x y : Nat} (hx : x < 2 ^ 30) (hy : y < 2 ^ 30) (h : x ≤ y) : nI x - nI y ≤ 0 := by
  rw [Int32.le_iff_toInt_le, pk_sub_toInt hx hy, show (0 : Int32).toInt = 0 by decide]; omega
theorem ni_nsub {x y : Nat} (h : x ≤ y) : -(nI x - nI y) = nI (y - x) := by
  rw [Int32.neg_sub, pk_sub h]
section
variable {fS fC fA fP fW fE fN fT : Int32} {aL aG aC aT aO aR aA aK aH aB aW : Nat → Int32}
variable {post : SX → Prop} {pr : Int32 → SX → Prop} {pi : Int32 → Prop}
theorem x_sum {R : RR_} {d : Nat → Nat} (h : wf_ R) (hB : bd_ d) (a b t : Nat) {sb : Int32} (ha : a < 28) (hb : b < 28) (ht : t < 28) (hs : sn_ sb)
    (K : ∀ d', bd_ d' → pr (o_sum R a b sb t).1 (fS, fC, fA, fP, fW, fE, fN, fT, dn_A (rg_l ((o_sum R a b sb t).2).1), ((o_sum R a b sb t).2).2.1, dn_A ((o_sum R a b sb t).2).2.2, aT, aO, aR, aA, aK, aH, aB, dn_A d')) :
    wpX_sum pr (fS, fC, fA, fP, fW, fE, fN, fT, dn_A (rg_l R.1), R.2.1, dn_A R.2.2, aT, aO, aR, aA, aK, aH, aB, dn_A d) (nI a) (nI b) sb (nI t) := by
  have hm := mc_a h a b
  have i1 : vp_in (nI a) 28 := pk_in a 28 ha
  have la := sh_lt h (a := a) (s := mc_ R a b) (by omega)
  have lb := sh_lt h (a := b) (s := mc_ R a b) (by omega)
  have p60 : (10 : Nat) ^ 60 + 10 ^ 60 < 10000 ^ 31 := by decide
  have p61 : (10000 : Nat) ^ 31 < 10000 ^ 32 := by decide
  unfold wpX_sum
  refine x_align h hB a b ha hb (fun d1 b1 e1 e2 => ⟨i1, nm_r (e' := R.2.1 a) (by rw [nI_clamp (by omega)]) ?_⟩)
  unfold o_sum at K
  refine br_c (fun z => ?_) (fun z => ?_)
  · rw [if_pos z] at K
    refine x_order b1 0 32 (by decide) (by decide) ?_
    rw [e1, e2]
    by_cases y : sh_ R a (mc_ R a b) < sh_ R b (mc_ R a b)
    · rw [if_pos y] at K
      rw [cm_lt y]
      refine br_f (by decide) (x_minus b1 32 0 32 32 (by decide) (by decide) (by decide) (by decide) (by omega) (fun d2 b2 v2 f2 => ?_))
      rw [e1, e2] at v2
      refine x_store b2 t 32 32 (mc_ R a b) ht (by decide) (by decide) hs (by omega) ?_
      rw [v2]
      exact K d2 b2
    · rw [if_neg y] at K
      have h0 : (0 : Int32) ≤ cm_ (sh_ R a (mc_ R a b)) (sh_ R b (mc_ R a b)) := by
        rcases Nat.eq_or_lt_of_le (Nat.le_of_not_lt y) with q | q
        · rw [cm_eq q.symm]; decide
        · rw [cm_gt q]; decide
      refine br_t h0 (x_minus b1 0 32 32 32 (by decide) (by decide) (by decide) (by decide) (by omega) (fun d2 b2 v2 f2 => ?_))
      rw [e1, e2] at v2
      refine x_store b2 t 0 32 (mc_ R a b) ht (by decide) (by decide) (h a).2.1 (by omega) ?_
      rw [v2]
      exact K d2 b2
  · rw [if_neg z] at K
    have e3 : dl_v 10000 d1 32 31 = sh_ R b (mc_ R a b) := by
      rw [← e2]; exact (dl_cut (by decide) (by decide) (by rw [e2]; omega)).symm
    refine x_plus b1 0 32 31 32 (by decide) (by decide) (by decide) (by decide) (by rw [e1, e3]; omega) (fun d2 b2 v2 f2 => ?_)
    rw [e1, e3] at v2
    refine br_c (fun y => ?_) (fun y => ?_)
    · rw [if_pos y] at K
      refine x_store b2 t 0 32 (mc_ R a b) ht (by decide) (by decide) hs (by omega) ?_
      rw [v2]
      exact K d2 b2
    · rw [if_neg y] at K
      refine x_store b2 t 0 32 (mc_ R a b) ht (by decide) (by decide) (h a).2.1 (by omega) ?_
      rw [v2]
      exact K d2 b2
theorem x_rank {R : RR_} {d : Nat → Nat} (h : wf_ R) (hB : bd_ d) (a b : Nat) (ha : a < 28) (hb : b < 28)
    (K : ∀ d', bd_ d' → pr (o_cmp R a b) (fS, fC, fA, fP, fW, fE, fN, fT, dn_A (rg_l R.1), R.2.1, dn_A R.2.2, aT, aO, aR, aA, aK, aH, aB, dn_A d')) :
    wpX_ranking pr (fS, fC, fA, fP, fW, fE, fN, fT, dn_A (rg_l R.1), R.2.1, dn_A R.2.2, aT, aO, aR, aA, aK, aH, aB, dn_A d) (nI a) (nI b) := by
  have i1 : vp_in (nI a) 28 := pk_in a 28 ha
  have i2 : vp_in (nI b) 28 := pk_in b 28 hb
  have ra : (nI a).toNatClampNeg = a := nI_clamp (by omega)
  have rb : (nI b).toNatClampNeg = b := nI_clamp (by omega)
  unfold wpX_ranking
  dsimp only
  rw [ra, rb]
  unfold o_cmp at K
  refine ⟨i1, i2, br_c (fun z => ?_) (fun z => ⟨i1, i2, br_c (fun y => ?_) (fun y => ?_)⟩)⟩
  · rw [if_pos z] at K
    refine x_align h hB a b ha hb (fun d1 b1 e1 e2 => x_order b1 0 32 (by decide) (by decide) ?_)
    rw [e1, e2]
    refine ⟨i1, br_c (fun y => ?_) (fun y => ?_)⟩
    · rw [if_pos y] at K; exact K d1 b1
    · rw [if_neg y] at K; exact K d1 b1
  · rw [if_neg z, if_pos y] at K; exact K d hB
  · rw [if_neg z, if_neg y] at K; exact K d hB
theorem x_mul {R : RR_} {d : Nat → Nat} (h : wf_ R) (hB : bd_ d) (sc a b t : Nat) (hsc : sc ≤ 16) (ha : a < 28) (hb : b < 28) (ht : t < 28)
    (K : ∀ d', bd_ d' → pr (o_mul R sc a b t).1 (nI sc, fC, fA, fP, fW, fE, fN, fT, dn_A (rg_l ((o_mul R sc a b t).2).1), ((o_mul R sc a b t).2).2.1, dn_A ((o_mul R sc a b t).2).2.2, aT, aO, aR, aA, aK, aH, aB, dn_A d')) :
    wpX_timesInto pr (nI sc, fC, fA, fP, fW, fE, fN, fT, dn_A (rg_l R.1), R.2.1, dn_A R.2.2, aT, aO, aR, aA, aK, aH, aB, dn_A d) (nI a) (nI b) (nI t) := by
  have i1 : vp_in (nI a) 28 := pk_in a 28 ha
  have i2 : vp_in (nI b) 28 := pk_in b 28 hb
  have ra : (nI a).toNatClampNeg = a := nI_clamp (by omega)
  have rb : (nI b).toNatClampNeg = b := nI_clamp (by omega)
  have ca := (h a).2.2.2
  have cb := (h b).2.2.2
  unfold wpX_timesInto
  dsimp only
  rw [ra, rb]
  refine ⟨i1, i2, nm_r (e' := nI (R.2.2 a + R.2.2 b)) (nI_add _ _) ⟨i1, i2, x_most (R.2.2 a) (R.2.2 b) (by omega) (by omega) (x_most (max (R.2.2 a) (R.2.2 b)) sc (by omega) (by omega) (x_least (R.2.2 a + R.2.2 b) (max (max (R.2.2 a) (R.2.2 b)) sc) (by omega) (by omega) ?_))⟩⟩
  rw [show min (R.2.2 a + R.2.2 b) (max (max (R.2.2 a) (R.2.2 b)) sc) = om_s R sc a b from rfl]
  have hos : om_s R sc a b ≤ R.2.2 a + R.2.2 b ∧ om_s R sc a b ≤ 20 := by unfold om_s; omega
  refine x_ld h hB a 0 ha (by decide) (fun d1 b1 _ e1 f1 => x_ld h b1 b 32 hb (by decide) (fun d2 b2 _ e2 f2 => x_product b2 (fun d3 b3 e3 f3 => ?_)))
  rw [fr_v f2 (by decide), e1, e2] at e3
  dsimp only
  rw [pk_sub hos.1]
  refine x_down b3 160 64 _ (by decide) (by omega) (fun d4 b4 e4 f4 => ⟨i1, i2, ?_⟩)
  rw [e3] at e4
  refine x_store b4 t 160 64 (om_s R sc a b) ht (by decide) (by decide) (sn_mul (h a).2.1 (h b).2.1) (by omega) ?_
  rw [e4]
  exact K d4 b4
theorem od_lt {R : RR_} (h : wf_ R) {sc : Nat} (hsc : sc ≤ 16) (a b : Nat) : od_N R sc a b < 10 ^ 76 := by
  have cb := (h b).2.2.2
  exact pw_le (h a).1 (by omega)
theorem x_ratio {R : RR_} {d : Nat → Nat} (h : wf_ R) (hB : bd_ d) (sc a b : Nat) (hsc : sc ≤ 16) (ha : a < 28) (hb : b < 28) (h0 : R.1 b ≠ 0)
    (K : ∀ d', bd_ d' → dl_v 10000 d' 64 32 = od_N R sc a b / od_D R a b → post (nI sc, fC, fA, fP, fW, fE, fN, fT, dn_A (rg_l R.1), R.2.1, dn_A R.2.2, aT, aO, aR, aA, aK, aH, aB, dn_A d')) :
    wpX_ratio post (nI sc, fC, fA, fP, fW, fE, fN, fT, dn_A (rg_l R.1), R.2.1, dn_A R.2.2, aT, aO, aR, aA, aK, aH, aB, dn_A d) (nI a) (nI b) := by
  have i1 : vp_in (nI a) 28 := pk_in a 28 ha
  have i2 : vp_in (nI b) 28 := pk_in b 28 hb
  have ra : (nI a).toNatClampNeg = a := nI_clamp (by omega)
  have rb : (nI b).toNatClampNeg = b := nI_clamp (by omega)
  have ca := (h a).2.2.2
  have cb := (h b).2.2.2
  have la := (h a).1
  have lb := (h b).1
  have p29 : (10000 : Nat) ^ 29 = 10 ^ 116 := by decide
  have p32 : (10000 : Nat) ^ 32 = 10 ^ 128 := by decide
  have q1 : (10 : Nat) ^ 40 < 10 ^ 116 := by decide
  have q2 : (10 : Nat) ^ 116 < 10 ^ 128 := by decide
  unfold wpX_ratio
  dsimp only
  rw [ra, rb]
  refine ⟨i2, i1, nm_r (e' := nI (sc + R.2.2 b) - nI (R.2.2 a)) (by rw [← nI_add]; rfl) (x_ld h hB a 0 ha (by decide) (fun d1 b1 e1 _ f1 => x_ld h b1 b 32 hb (by decide) (fun d2 b2 e2 _ f2 => ?_)))⟩
  have w1 : dl_v 10000 d2 0 32 = R.1 a := by rw [fr_v f2 (by decide), e1]
  rcases Nat.lt_or_ge (R.2.2 a) (sc + R.2.2 b) with z | z
  · rw [pk_sub (by omega)]
    have m1 : R.1 a * 10 ^ (sc + R.2.2 b - R.2.2 a) < 10 ^ 116 := pw_le la (by omega)
    refine br_f (nI_nle (by omega) (by omega)) (x_up b2 0 _ (by decide) (by omega) (by rw [w1, p32]; omega) (fun d3 b3 e3 f3 => ?_))
    rw [w1] at e3
    refine x_quot b3 e3 (D := R.1 b) (by rw [fr_v f3 (by decide), e2]) (by omega) (by omega) (by omega) (fun d4 b4 e4 f4 => K d4 b4 ?_)
    rw [e4]
    exact rt_1 (by omega)
  · refine br_t (ni_sle (by omega) (by omega) z) ?_
    rw [ni_nsub z]
    have m1 : R.1 b * 10 ^ (R.2.2 a - (sc + R.2.2 b)) < 10 ^ 116 := pw_le lb (by omega)
    refine x_up b2 32 _ (by decide) (by omega) (by rw [e2, p32]; omega) (fun d3 b3 e3 f3 => ?_)
    rw [e2] at e3
    refine x_quot b3 (N := R.1 a) (by rw [fr_v f3 (by decide), w1]) e3 (by omega) (by omega) (Nat.mul_pos (by omega) (pw_pos _)) (fun d4 b4 e4 f4 => K d4 b4 ?_)
    rw [e4]
    exact rt_2 (by omega)
theorem x_div {R : RR_} {d : Nat → Nat} (h : wf_ R) (hB : bd_ d) (sc a b t : Nat) (hsc : sc ≤ 16) (ha : a < 28) (hb : b < 28) (ht : t < 28)
    (K : ∀ d', bd_ d' → pr (o_div R sc a b t).1 (nI sc, fC, fA, fP, fW, fE, fN, fT, dn_A (rg_l ((o_div R sc a b t).2).1), ((o_div R sc a b t).2).2.1, dn_A ((o_div R sc a b t).2).2.2, aT, aO, aR, aA, aK, aH, aB, dn_A d')) :
    wpX_quotientInto pr (nI sc, fC, fA, fP, fW, fE, fN, fT, dn_A (rg_l R.1), R.2.1, dn_A R.2.2, aT, aO, aR, aA, aK, aH, aB, dn_A d) (nI a) (nI b) (nI t) := by
  have i1 : vp_in (nI a) 28 := pk_in a 28 ha
  have i2 : vp_in (nI b) 28 := pk_in b 28 hb
  have ra : (nI a).toNatClampNeg = a := nI_clamp (by omega)
  have rb : (nI b).toNatClampNeg = b := nI_clamp (by omega)
  unfold wpX_quotientInto
  dsimp only
  rw [ra, rb]
  unfold o_div at K
  refine ⟨i2, br_c (fun z => ?_) (fun z => ?_)⟩
  · rw [if_pos z] at K; exact K d hB
  · rw [if_neg z] at K
    refine x_ratio h hB sc a b hsc ha hb (fun e => z ((h b).2.2.1.mpr e)) (fun d1 b1 e1 => ⟨i1, i2, ?_⟩)
    refine x_store b1 t 64 32 sc ht (by decide) (by decide) (sn_mul (h a).2.1 (h b).2.1) (by omega) ?_
    rw [e1]
    exact K d1 b1
end
end
section
/-! rest, power, root, exponent -/
theorem rm_ {x y q f c s m N D : Nat} (hN : N = x * 10 ^ f) (hD : D = y * 10 ^ c) (hs : s = max c f) (hm : m = min c f) (hq : q = N / D) :
    q * y * 10 ^ (s - f) ≤ x * 10 ^ (s - c) ∧ x * 10 ^ (s - c) - q * y * 10 ^ (s - f) = N % D / 10 ^ m := by
  have e1 : x * 10 ^ (s - c) * 10 ^ m = N := by rw [Nat.mul_assoc, ← Nat.pow_add, hN]; exact congrArg (fun z => x * 10 ^ z) (by omega)
  have e2 : q * y * 10 ^ (s - f) * 10 ^ m = q * D := by rw [Nat.mul_assoc, ← Nat.pow_add, hD, Nat.mul_assoc]; exact congrArg (fun z => q * (y * 10 ^ z)) (by omega)
  have hle : q * D ≤ N := by rw [hq]; exact Nat.div_mul_le_self N D
  have hdm := Nat.div_add_mod N D
  rw [← hq, Nat.mul_comm] at hdm
  refine ⟨Nat.le_of_mul_le_mul_right (by rw [e1, e2]; exact hle) (pw_pos m), ?_⟩
  have e3 : N % D = (x * 10 ^ (s - c) - q * y * 10 ^ (s - f)) * 10 ^ m := by rw [Nat.sub_mul, e1, e2]; omega
  rw [e3, Nat.mul_div_cancel _ (pw_pos m)]
def op_s (R : RR_) (sc a e : Nat) : Nat := min (R.2.2 a * e) (max sc (R.2.2 a))
def op_g (g : Int32) (e : Nat) : Int32 := if e = 0 then 1 else if e % 2 = 0 then g * g else g
def o_pow (R : RR_) (sc a e t : Nat) : Int32 × RR_ := if 10 ^ 80 ≤ R.1 a ^ e then (-8, R) else so_ R t (R.1 a ^ e / 10 ^ (R.2.2 a * e - op_s R sc a e)) (op_g (R.2.1 a) e) (op_s R sc a e)
def o_root (R : RR_) (sc a t : Nat) : Int32 × RR_ := if 0 ≤ R.2.1 a then so_ R t (sq_ (R.1 a * 10 ^ (2 * max sc (R.2.2 a) - R.2.2 a))) 1 (max sc (R.2.2 a)) else (-6, R)
def o_exp (R : RR_) (b : Nat) : Int32 := if ¬ R.2.1 b < 0 ∧ R.1 b / 10 ^ R.2.2 b < 10 ∧ R.1 b / 10 ^ R.2.2 b * 10 ^ R.2.2 b = R.1 b then nI (R.1 b / 10 ^ R.2.2 b) else -1
theorem pe_ge {p k e : Nat} (hk : k ≤ e) (h : 10 ^ 80 ≤ p ^ k) : 10 ^ 80 ≤ p ^ e := by
  rcases Nat.eq_zero_or_pos p with z | z
  · subst z
    exfalso
    rcases Nat.eq_zero_or_pos k with y | y
    · subst y; rw [Nat.pow_zero] at h; omega
    · rw [Nat.zero_pow y] at h; omega
  · exact Nat.le_trans h (Nat.pow_le_pow_right z hk)
section
variable {fS fC fA fP fW fE fN fT : Int32} {aL aG aC aT aO aR aA aK aH aB aW : Nat → Int32}
variable {post : SX → Prop} {pr : Int32 → SX → Prop} {pi : Int32 → Prop}
theorem x_rem {R : RR_} {d : Nat → Nat} (h : wf_ R) (hB : bd_ d) (sc a b t : Nat) (hsc : sc ≤ 16) (ha : a < 28) (hb : b < 28) (ht : t < 28)
    (K : ∀ d', bd_ d' → pr (o_rem R sc a b t).1 (nI sc, fC, fA, fP, fW, fE, fN, fT, dn_A (rg_l ((o_rem R sc a b t).2).1), ((o_rem R sc a b t).2).2.1, dn_A ((o_rem R sc a b t).2).2.2, aT, aO, aR, aA, aK, aH, aB, dn_A d')) :
    wpX_restInto pr (nI sc, fC, fA, fP, fW, fE, fN, fT, dn_A (rg_l R.1), R.2.1, dn_A R.2.2, aT, aO, aR, aA, aK, aH, aB, dn_A d) (nI a) (nI b) (nI t) := by
  have i1 : vp_in (nI a) 28 := pk_in a 28 ha
  have i2 : vp_in (nI b) 28 := pk_in b 28 hb
  have ra : (nI a).toNatClampNeg = a := nI_clamp (by omega)
  have rb : (nI b).toNatClampNeg = b := nI_clamp (by omega)
  have ca := (h a).2.2.2
  have cb := (h b).2.2.2
  unfold wpX_restInto
  dsimp only
  rw [ra, rb]
  unfold o_rem at K
  refine ⟨i2, br_c (fun z => ?_) (fun z => ⟨i2, nm_r (e' := nI (sc + R.2.2 b)) (nI_add sc _) ⟨i1, x_most (R.2.2 a) (sc + R.2.2 b) (by omega) (by omega) ?_⟩⟩)⟩
  · rw [if_pos z] at K; exact K d hB
  · rw [if_neg z] at K
    have hb0 : R.1 b ≠ 0 := fun e => z ((h b).2.2.1.mpr e)
    generalize hs : max (R.2.2 a) (sc + R.2.2 b) = s at *
    have hNl := od_lt h hsc a b
    have hDp : 0 < od_D R a b := Nat.mul_pos (by omega) (pw_pos _)
    obtain ⟨r1, r2⟩ := rm_ (x := R.1 a) (y := R.1 b) (q := od_N R sc a b / od_D R a b) (f := sc + R.2.2 b) (c := R.2.2 a) (s := s) (m := min (R.2.2 a) (sc + R.2.2 b)) (N := od_N R sc a b) (D := od_D R a b) (by unfold od_N; rw [Nat.add_comm sc]) rfl hs.symm rfl rfl
    have hql : od_N R sc a b / od_D R a b < 10 ^ 76 := Nat.lt_of_le_of_lt (Nat.div_le_self _ _) hNl
    have hxl : R.1 a * 10 ^ (s - R.2.2 a) < 10 ^ 76 := pw_le (h a).1 (by omega)
    rw [← r2] at K
    generalize hqq : od_N R sc a b / od_D R a b = q at *
    have p76 : (10 : Nat) ^ 76 = 10000 ^ 19 := by decide
    have p32 : (10000 : Nat) ^ 19 < 10000 ^ 32 := by decide
    refine x_ratio h hB sc a b hsc ha hb hb0 (fun d1 b1 e1 => x_size b1 64 32 (by decide) (fun n hn en zn tn => ?_))
    have hn19 : n ≤ 19 := by
      rcases Nat.lt_or_ge 19 n with y | y
      · exfalso
        have g1 := dl_ge (B := 10000) (d := d1) (a := 64) (n := 32) (k := n - 1) (by omega) (by omega)
        have g2 : 10000 ^ 19 ≤ 10000 ^ (n - 1) := Nat.pow_le_pow_right (by decide) (by omega)
        have g3 : dl_v 10000 d1 64 32 = q := e1.trans hqq
        omega
      · exact y
    have eq : dl_v 10000 d1 64 n = q := by rw [← en]; exact e1.trans hqq
    refine x_ld h b1 b 32 hb (by decide) (fun d2 b2 _ e2 f2 => x_zero b2 160 64 (by decide) (fun d3 b3 z3 f3 => x_times b3 64 n 32 10 160 (by omega) (by decide) (by omega) (by omega) (by omega) (fun d4 b4 e4 f4 => ?_)))
    rw [fr_v f3 (by omega), fr_v f2 (by omega), eq, fr_v f3 (by decide), e2] at e4
    have e5 : dl_v 10000 d4 160 32 = q * R.1 b := by
      rw [dl_ext (m := n + 10) (by omega) (fun k k1 k2 => by rw [f4 _ (by omega), z3 _ (by omega) (by omega)]), e4]
    dsimp only
    rw [pk_sub (show sc + R.2.2 b ≤ s by omega)]
    refine x_up b4 160 _ (by decide) (by omega) (by rw [e5]; omega) (fun d5 b5 e6 f5 => ?_)
    rw [e5] at e6
    refine x_ld h b5 a 0 ha (by decide) (fun d6 b6 e7 _ f6 => ⟨i1, ?_⟩)
    dsimp only
    rw [show nI s - dn_A R.2.2 a = nI (s - R.2.2 a) from pk_sub (by omega)]
    refine x_up b6 0 _ (by decide) (by omega) (by rw [e7]; omega) (fun d7 b7 e8 f7 => ?_)
    rw [e7] at e8
    have e9 : dl_v 10000 d7 160 32 = q * R.1 b * 10 ^ (s - (sc + R.2.2 b)) := by rw [fr_v f7 (by decide), fr_v f6 (by decide), e6]
    refine x_minus b7 0 160 32 32 (by decide) (by decide) (by decide) (by decide) (by rw [e8, e9]; exact r1) (fun d8 b8 e10 f8 => ⟨i1, ?_⟩)
    rw [e8, e9] at e10
    refine x_store b8 t 0 32 s ht (by decide) (by decide) (h a).2.1 (by omega) ?_
    rw [e10]
    exact K d8 b8
theorem x_root {R : RR_} {d : Nat → Nat} (h : wf_ R) (hB : bd_ d) (sc a t : Nat) (hsc : sc ≤ 16) (ha : a < 28) (ht : t < 28)
    (K : ∀ d', bd_ d' → pr (o_root R sc a t).1 (nI sc, fC, fA, fP, fW, fE, fN, fT, dn_A (rg_l ((o_root R sc a t).2).1), ((o_root R sc a t).2).2.1, dn_A ((o_root R sc a t).2).2.2, aT, aO, aR, aA, aK, aH, aB, dn_A d')) :
    wpX_rootInto pr (nI sc, fC, fA, fP, fW, fE, fN, fT, dn_A (rg_l R.1), R.2.1, dn_A R.2.2, aT, aO, aR, aA, aK, aH, aB, dn_A d) (nI a) (nI t) := by
  have i1 : vp_in (nI a) 28 := pk_in a 28 ha
  have ra : (nI a).toNatClampNeg = a := nI_clamp (by omega)
  have ca := (h a).2.2.2
  unfold wpX_rootInto
  dsimp only
  rw [ra]
  unfold o_root at K
  refine ⟨i1, br_c (fun z => ⟨i1, x_most sc (R.2.2 a) (by omega) (by omega) ?_⟩) (fun z => ?_)⟩
  · rw [if_pos z] at K
    generalize hs : max sc (R.2.2 a) = s at *
    have p80 : (10000 : Nat) ^ 20 = 10 ^ 80 := by decide
    have p32 : (10 : Nat) ^ 80 < 10000 ^ 32 := by decide
    have hl : R.1 a * 10 ^ (2 * s - R.2.2 a) < 10 ^ 80 := pw_le (h a).1 (by omega)
    refine x_ld h hB a 96 ha (by decide) (fun d1 b1 e1 _ f1 => ⟨i1, ?_⟩)
    dsimp only
    rw [show 2 * nI s - dn_A R.2.2 a = nI (2 * s - R.2.2 a) by rw [show (2 : Int32) = nI 2 from rfl, pk_mul]; exact pk_sub (by omega)]
    refine x_up b1 96 _ (by decide) (by omega) (by rw [e1]; omega) (fun d2 b2 e2 f2 => ?_)
    rw [e1] at e2
    refine x_sqrt b2 e2 (by omega) (fun d3 b3 e3 => ?_)
    refine x_store b3 t 128 32 s ht (by decide) (by decide) sn_1 (by omega) ?_
    rw [e3]
    exact K d3 b3
  · rw [if_neg z] at K; exact K d hB
theorem xp_27 {R : RR_} (h : wf_ R) {sc a e t : Nat} (hsc : sc ≤ 16) (ha : a < 28) (ht : t < 28) (he : e < 10)
    (K : ∀ d', bd_ d' → pr (o_pow R sc a e t).1 (nI sc, fC, fA, fP, fW, fE, fN, fT, dn_A (rg_l ((o_pow R sc a e t).2).1), ((o_pow R sc a e t).2).2.1, dn_A ((o_pow R sc a e t).2).2.2, aT, aO, aR, aA, aK, aH, aB, dn_A d')) :
    ∀ (m k : Nat) (d : Nat → Nat), bd_ d → k + m = e → dl_v 10000 d 0 10 = R.1 a → dl_v 10000 d 128 20 = R.1 a ^ k → (∀ j, 148 ≤ j → j < 160 → d j = 0) →
    wX_powerInto_27 pr (nI a) (nI e) (nI t) (m + 1) (nI k) (nI sc) fC fA fP fW fE fN fT (dn_A (rg_l R.1)) R.2.1 (dn_A R.2.2) aT aO aR aA aK aH aB (dn_A d)
  | 0, k, d, hB, hk, e1, e2, z2 => by
    have ek : k = e := by omega
    subst ek
    have i1 : vp_in (nI a) 28 := pk_in a 28 ha
    have ra : (nI a).toNatClampNeg = a := nI_clamp (by omega)
    have ca := (h a).2.2.2
    have hl : ¬ 10 ^ 80 ≤ R.1 a ^ k := by
      have := dl_lt (B := 10000) (d := d) (a := 128) (n := 20) (fun j _ => b_of hB)
      have p80 : (10000 : Nat) ^ 20 = 10 ^ 80 := by decide
      omega
    unfold o_pow at K
    rw [if_neg hl] at K
    have hce : R.2.2 a * k ≤ 20 * 9 := Nat.mul_le_mul ca (by omega)
    refine br_t (nI_le (Nat.le_refl _) (by omega)) ?_
    rw [ra]
    refine ⟨i1, nm_r (e' := nI (R.2.2 a * k)) (pk_mul _ _) ⟨i1, x_most sc (R.2.2 a) (by omega) (by omega) (x_least (R.2.2 a * k) (max sc (R.2.2 a)) (by omega) (by omega) ?_)⟩⟩
    rw [show min (R.2.2 a * k) (max sc (R.2.2 a)) = op_s R sc a k from rfl]
    have hos : op_s R sc a k ≤ R.2.2 a * k ∧ op_s R sc a k ≤ 20 := by unfold op_s; omega
    rw [pk_sub hos.1]
    refine x_down hB 128 32 _ (by decide) (by omega) (fun d1 b1 v1 f1 => ?_)
    have e3 : dl_v 10000 d 128 32 = R.1 a ^ k := by rw [dl_ext (m := 20) (by decide) (fun j j1 j2 => z2 _ (by omega) (by omega)), e2]
    rw [e3] at v1
    have go : ∀ g : Int32, g = op_g (R.2.1 a) k → sn_ g → wX_powerInto_167 pr (nI t) (nI (op_s R sc a k)) g (nI sc) fC fA fP fW fE fN fT (dn_A (rg_l R.1)) R.2.1 (dn_A R.2.2) aT aO aR aA aK aH aB (dn_A d1) := by
      intro g hg hsn
      refine x_store b1 t 128 32 (op_s R sc a k) ht (by decide) (by decide) hsn (by omega) ?_
      rw [v1, hg]
      exact K d1 b1
    have g1 := (h a).2.1
    refine pk_eq k 0 (fun z => go 1 (by unfold op_g; rw [if_pos z]) sn_1) (fun z => ?_)
    rw [show nI k &&& 1 = nI (k % 2) from pk_andN (by omega) 1 (by decide)]
    refine pk_eq (k % 2) 0 (fun y => ⟨i1, i1, ?_⟩) (fun y => ⟨i1, ?_⟩)
    · exact go _ (by unfold op_g; rw [if_neg z, if_pos y]) (sn_mul g1 g1)
    · exact go _ (by unfold op_g; rw [if_neg z, if_neg y]) g1
  | m + 1, k, d, hB, hk, e1, e2, z2 => by
    have p80 : (10000 : Nat) ^ 20 = 10 ^ 80 := by decide
    refine pk_le e k (fun z => by omega) (fun _ => x_times hB 128 20 0 10 160 (by decide) (by decide) (by decide) (by decide) (by decide) (fun d1 b1 v1 f1 => x_size b1 160 30 (by decide) (fun n hn en zn tn => ?_)))
    rw [e1, e2, ← Nat.pow_succ] at v1
    refine pk_le n 20 (fun z => ?_) (fun z => ?_)
    · refine x_copyL b1 160 128 20 (by decide) (by decide) (by decide) (fun d2 b2 v2 f2 => nm_r (nI_1 k) (xp_27 h hsc ha ht he K m (k + 1) d2 b2 (by omega) ?_ ?_ (fun j j1 j2 => ?_)))
      · rw [fr_v f2 (by decide), fr_v f1 (by decide), e1]
      · rw [v2, ← v1]
        exact (dl_ext (n := 20 + 10) (m := 20) (by decide) (fun j j1 j2 => zn j (by omega) j2)).symm
      · rw [f2 j (by omega), f1 j (by omega)]; exact z2 j j1 j2
    · have hge : 10 ^ 80 ≤ R.1 a ^ (k + 1) := by
        have g1 := dl_ge (B := 10000) (d := d1) (a := 160) (n := 30) (k := n - 1) (by omega) (by omega)
        have g2 : 10000 ^ 20 ≤ 10000 ^ (n - 1) := Nat.pow_le_pow_right (by decide) (by omega)
        rw [show dl_v 10000 d1 160 30 = R.1 a ^ (k + 1) from v1] at g1
        omega
      unfold o_pow at K
      rw [if_pos (pe_ge (show k + 1 ≤ e by omega) hge)] at K
      exact K d1 b1
theorem x_pow {R : RR_} {d : Nat → Nat} (h : wf_ R) (hB : bd_ d) (sc a e t : Nat) (hsc : sc ≤ 16) (ha : a < 28) (ht : t < 28) (he : e < 10)
    (K : ∀ d', bd_ d' → pr (o_pow R sc a e t).1 (nI sc, fC, fA, fP, fW, fE, fN, fT, dn_A (rg_l ((o_pow R sc a e t).2).1), ((o_pow R sc a e t).2).2.1, dn_A ((o_pow R sc a e t).2).2.2, aT, aO, aR, aA, aK, aH, aB, dn_A d')) :
    wpX_powerInto pr (nI sc, fC, fA, fP, fW, fE, fN, fT, dn_A (rg_l R.1), R.2.1, dn_A R.2.2, aT, aO, aR, aA, aK, aH, aB, dn_A d) (nI a) (nI e) (nI t) := by
  unfold wpX_powerInto
  refine x_ld h hB a 0 ha (by decide) (fun d1 b1 _ e1 f1 => x_zero b1 128 32 (by decide) (fun d2 b2 z2 f2 => nm_r (e' := dn_A (dn_u d2 128 1)) dn_up ⟨e + 1, xp_27 h hsc ha ht he K e 0 _ (bd_u b2 (by decide)) (by omega) ?_ ?_ (fun j j1 j2 => ?_)⟩))
  · rw [dl_u (by decide), fr_v f2 (by decide), e1]
  · rw [dl_low, dn_us, dl_u (by decide), dl_z (fun k hk => z2 _ (by omega) (by omega)), Nat.pow_zero]
  · rw [dn_un (by omega)]; exact z2 j (by omega) (by omega)
theorem x_57 {R : RR_} {d : Nat → Nat} (h : wf_ R) (hB : bd_ d) {b e : Nat} {z : Int32} (hb : b < 28) (hv : dl_v 10000 d 0 32 = R.1 b / 10 ^ R.2.2 b)
    (K : ∀ d', bd_ d' → ((z = 0 → pr (-1) (fS, fC, fA, fP, fW, fE, fN, fT, dn_A (rg_l R.1), R.2.1, dn_A R.2.2, aT, aO, aR, aA, aK, aH, aB, dn_A d')) ∧ (¬ z = 0 → R.1 b / 10 ^ R.2.2 b * 10 ^ R.2.2 b = R.1 b → pr (nI e) (fS, fC, fA, fP, fW, fE, fN, fT, dn_A (rg_l R.1), R.2.1, dn_A R.2.2, aT, aO, aR, aA, aK, aH, aB, dn_A d')) ∧ (¬ z = 0 → ¬ R.1 b / 10 ^ R.2.2 b * 10 ^ R.2.2 b = R.1 b → pr (-1) (fS, fC, fA, fP, fW, fE, fN, fT, dn_A (rg_l R.1), R.2.1, dn_A R.2.2, aT, aO, aR, aA, aK, aH, aB, dn_A d')))) :
    wX_exponent_57 pr (nI b) (nI e) z fS fC fA fP fW fE fN fT (dn_A (rg_l R.1)) R.2.1 (dn_A R.2.2) aT aO aR aA aK aH aB (dn_A d) := by
  have i1 : vp_in (nI b) 28 := pk_in b 28 hb
  have cb := (h b).2.2.2
  have lb := (h b).1
  have hle : R.1 b / 10 ^ R.2.2 b * 10 ^ R.2.2 b ≤ R.1 b := Nat.div_mul_le_self _ _
  have p32 : (10 : Nat) ^ 40 < 10000 ^ 32 := by decide
  refine ⟨i1, ?_⟩
  rw [dn_rd b rfl (by omega)]
  refine x_up hB 0 (R.2.2 b) (by decide) (by omega) (by rw [hv]; omega) (fun d1 b1 e1 f1 => x_ld h b1 b 32 hb (by decide) (fun d2 b2 e2 _ f2 => ?_))
  rw [hv] at e1
  obtain ⟨k1, k2, k3⟩ := K d2 b2
  refine br_c k1 (fun y => x_order b2 0 32 (by decide) (by decide) ?_)
  rw [fr_v f2 (by decide), e1, e2]
  by_cases q : R.1 b / 10 ^ R.2.2 b * 10 ^ R.2.2 b = R.1 b
  · rw [cm_eq q]; exact br_t rfl (k2 y q)
  · rw [cm_lt (by omega)]; exact br_f (by decide) (k3 y q)
theorem x_exp {R : RR_} {d : Nat → Nat} (h : wf_ R) (hB : bd_ d) (b : Nat) (hb : b < 28)
    (K : ∀ d', bd_ d' → pr (o_exp R b) (fS, fC, fA, fP, fW, fE, fN, fT, dn_A (rg_l R.1), R.2.1, dn_A R.2.2, aT, aO, aR, aA, aK, aH, aB, dn_A d')) :
    wpX_exponent pr (fS, fC, fA, fP, fW, fE, fN, fT, dn_A (rg_l R.1), R.2.1, dn_A R.2.2, aT, aO, aR, aA, aK, aH, aB, dn_A d) (nI b) := by
  have i1 : vp_in (nI b) 28 := pk_in b 28 hb
  have rb : (nI b).toNatClampNeg = b := nI_clamp (by omega)
  have cb := (h b).2.2.2
  unfold wpX_exponent
  dsimp only
  rw [rb]
  refine x_ld h hB b 0 hb (by decide) (fun d1 b1 e1 _ f1 => ⟨i1, x_down b1 0 32 (R.2.2 b) (by decide) (by omega) (fun d2 b2 e2 f2 => ?_)⟩)
  rw [e1] at e2
  have bad : (¬ (¬ R.2.1 b < 0 ∧ R.1 b / 10 ^ R.2.2 b < 10 ∧ R.1 b / 10 ^ R.2.2 b * 10 ^ R.2.2 b = R.1 b)) → wX_exponent_56 pr (nI b) (nI (d2 0)) fS fC fA fP fW fE fN fT (dn_A (rg_l R.1)) R.2.1 (dn_A R.2.2) aT aO aR aA aK aH aB (dn_A d2) := by
    intro hn
    unfold o_exp at K
    rw [if_neg hn] at K
    exact x_57 h b2 hb e2 (fun d' b' => ⟨fun _ => K d' b', fun y => absurd rfl y, fun y => absurd rfl y⟩)
  refine nm_e ⟨i1, br_c (fun z => bad (fun q => q.1 z)) (fun z => x_size b2 0 32 (by decide) (fun n hn en zn tn => pk_le 2 n (fun y => bad (fun q => ?_)) (fun y => ?_)))⟩
  · have g1 := dl_ge (B := 10000) (d := d2) (a := 0) (n := 32) (k := n - 1) (by omega) (by omega)
    have g2 : 10000 ^ 1 ≤ 10000 ^ (n - 1) := Nat.pow_le_pow_right (by decide) (by omega)
    rw [e2] at g1
    omega
  · have e0 : d2 0 = R.1 b / 10 ^ R.2.2 b := by
      rw [← e2, dl_ext (m := 1) (by decide) (fun k k1 k2 => zn k (by omega) k2), dl_low, dl_0]; rfl
    refine pk_le 10 (d2 0) (fun x => bad (fun q => by omega)) (fun x => ?_) rfl rfl (by decide) (by have := b2 0; omega)
    unfold o_exp at K
    refine x_57 h b2 hb e2 (fun d' b' => ⟨fun y => absurd y (by decide), fun _ q => ?_, fun _ q => ?_⟩)
    · rw [if_pos ⟨z, by omega, q⟩, ← e0] at K; exact K d' b'
    · rw [if_neg (fun w => q w.2.2)] at K; exact K d' b'
end
end
section
/-! the reference's work numbers -/
def ar_ (e : Nat → Nat) (n v : Nat) : Prop := (∀ k, k < 128 → e (128 * n + k) < 10) ∧ dl_v 10 e (128 * n) 128 = v
theorem ar_lt {e : Nat → Nat} {n v : Nat} (h : ar_ e n v) : v < 10 ^ 128 := by rw [← h.2]; exact dl_lt h.1
theorem ar_f {e e' : Nat → Nat} {n m v : Nat} (h : ar_ e m v) (f : fr_ e e' (128 * n) (128 * n + 128)) (hn : m ≠ n) : ar_ e' m v :=
  ⟨fun k hk => by rw [f _ (by omega)]; exact h.1 k hk, by rw [fr_v f (by omega)]; exact h.2⟩
theorem ar_d {e : Nat → Nat} {n v k : Nat} (h : ar_ e n v) (hk : k < 128) : e (128 * n + k) = v / 10 ^ k % 10 := by
  rw [← h.2]; exact dl_dig h.1 hk
theorem ar_of {e : Nat → Nat} {n v : Nat} (hv : v < 10 ^ 128) (h : ∀ k, k < 128 → e (128 * n + k) = v / 10 ^ k % 10) : ar_ e n v :=
  ⟨fun k hk => by rw [h k hk]; exact Nat.mod_lt _ (by decide), dl_of' hv h⟩
theorem ni_8 (n k : Nat) : (128 : Int32) * nI n + nI k = nI (128 * n + k) := by
  rw [show (128 : Int32) = nI 128 by decide, pk_mul, nI_add]
theorem ni_80 (n : Nat) : (128 : Int32) * nI n = nI (128 * n) := by
  rw [show (128 : Int32) = nI 128 by decide, pk_mul]
theorem ni_8m (n k : Nat) : (128 : Int32) * nI n + nI (k + 1) - 1 = nI (128 * n + k) := by rw [ni_8]; exact nI_pred _
theorem ni_40 (n k : Nat) : (40 : Int32) * nI n + nI k = nI (40 * n + k) := by
  rw [show (40 : Int32) = nI 40 by decide, pk_mul, nI_add]
theorem rg_40 {r k : Nat} (hk : k < 40) : (40 * r + k) / 40 = r ∧ (40 * r + k) % 40 = k := by omega
theorem rg_db {v : Nat → Nat} {j : Nat} : rg_d v j < 10 := Nat.mod_lt _ (by decide)
section
variable {gP gT gW gJ gV gE : Int32} {bD bG bP bW bL bT bO bH : Nat → Int32}
variable {post : SY → Prop} {pr : Int32 → SY → Prop} {pi : Int32 → Prop}
theorem yz_l {n : Nat} (hn : n < 4) : ∀ (m i : Nat) (d : Nat → Nat), i + m = 128 * n + 128 →
    (∀ d', (∀ j, i ≤ j → j < 128 * n + 128 → d' j = 0) → fr_ d d' i (128 * n + 128) → post (gP, gT, gW, gJ, gV, gE, bD, bG, bP, dn_A d', bL, bT, bO, bH)) →
    wY_zero_6 post (nI n) gP gT gW gJ gV gE (m + 1) (nI i) bD bG bP (dn_A d) bL bT bO bH
  | 0, i, d, hi, K => pk_le (128 * n + 128) i (fun _ => K d (fun j _ _ => by omega) fr_r) (fun z => by omega) (ni_8 n 128)
  | m + 1, i, d, hi, K => by
    refine pk_le (128 * n + 128) i (fun z => by omega) (fun _ => ⟨pk_in i 512 (by omega), nm_r (dn_st i 0 rfl rfl (by omega)) (nm_r (nI_1 i) (yz_l hn m (i + 1) _ (by omega) (fun d' h1 h2 => K d' (fun j g1 g2 => ?_) (fr_k h2 (by omega) (by omega) (by omega) (by omega)))))⟩) (ni_8 n 128)
    rcases Nat.eq_or_lt_of_le g1 with e | e
    · rw [← e, h2 i (by omega), dn_us]
    · exact h1 j e g2
theorem y_zero {e : Nat → Nat} (n : Nat) (hn : n < 4)
    (K : ∀ e', ar_ e' n 0 → (∀ j, 128 * n ≤ j → j < 128 * n + 128 → e' j = 0) → fr_ e e' (128 * n) (128 * n + 128) → post (gP, gT, gW, gJ, gV, gE, bD, bG, bP, dn_A e', bL, bT, bO, bH)) :
    wpY_zero post (gP, gT, gW, gJ, gV, gE, bD, bG, bP, dn_A e, bL, bT, bO, bH) (nI n) :=
  nm_r (ni_80 n) ⟨129, yz_l hn 128 (128 * n) e rfl (fun d' h1 h2 => K d' ⟨fun k hk => by rw [h1 _ (by omega) (by omega)]; decide, dl_z (fun k hk => h1 _ (by omega) (by omega))⟩ h1 h2)⟩
theorem yf_l {v : Nat → Nat} {n r s : Nat} (hn : n < 4) (hr : r < 32) (hs : s + 40 ≤ 128) : ∀ (m k : Nat) (d : Nat → Nat), k + m = 40 →
    (∀ d', (∀ j, k ≤ j → j < 40 → d' (128 * n + s + j) = rg_d v (40 * r + j)) → fr_ d d' (128 * n + s + k) (128 * n + s + 40) → post (gP, gT, gW, gJ, gV, gE, dn_A (rg_d v), bG, bP, dn_A d', bL, bT, bO, bH)) →
    wY_fetch_8 post (nI n) (nI r) (nI s) gP gT gW gJ gV gE (m + 1) (nI k) (dn_A (rg_d v)) bG bP (dn_A d) bL bT bO bH
  | 0, k, d, hi, K => pk_le 40 k (fun _ => K d (fun j _ _ => by omega) fr_r) (fun z => by omega)
  | m + 1, k, d, hi, K => by
    have i2 : (128 : Int32) * nI n + nI s + nI k = nI (128 * n + s + k) := by rw [ni_8, nI_add]
    refine pk_le 40 k (fun z => by omega) (fun _ => ⟨pk_in (40 * r + k) 1280 (by omega) (ni_40 r k), pk_in (128 * n + s + k) 512 (by omega) i2,
      nm_r (dn_st (128 * n + s + k) (rg_d v (40 * r + k)) i2 (dn_rd _ (ni_40 r k) (by omega)) (by omega)) (nm_r (nI_1 k) (yf_l hn hr hs m (k + 1) _ (by omega) (fun d' h1 h2 => K d' (fun j g1 g2 => ?_) (fr_k h2 (by omega) (by omega) (by omega) (by omega)))))⟩)
    rcases Nat.eq_or_lt_of_le g1 with e | e
    · rw [← e, h2 (128 * n + s + k) (by omega), dn_us]
    · exact h1 j e g2
theorem y_fetch {e : Nat → Nat} {R : RR_} (h : wf_ R) (n r s : Nat) (hn : n < 4) (hr : r < 32) (hs : s + 40 ≤ 128)
    (K : ∀ e', ar_ e' n (R.1 r * 10 ^ s) → fr_ e e' (128 * n) (128 * n + 128) → post (gP, gT, gW, gJ, gV, gE, dn_A (rg_d R.1), R.2.1, dn_A R.2.2, dn_A e', bL, bT, bO, bH)) :
    wpY_fetch post (gP, gT, gW, gJ, gV, gE, dn_A (rg_d R.1), R.2.1, dn_A R.2.2, dn_A e, bL, bT, bO, bH) (nI n) (nI r) (nI s) := by
  unfold wpY_fetch
  refine y_zero n hn (fun e1 a1 z1 f1 => ⟨41, yf_l hn hr hs 40 0 e1 rfl (fun e2 h2 f2 => K e2 ⟨fun k hk => ?_, ?_⟩ (fr_t f1 f2 (by omega) (by omega) (by omega) (by omega)))⟩)
  · by_cases z : s ≤ k ∧ k < s + 40
    · have := h2 (k - s) (by omega) (by omega)
      rw [show 128 * n + s + (k - s) = 128 * n + k by omega] at this
      rw [this]; exact rg_db
    · rw [f2 _ (by omega)]; exact a1.1 k hk
  · have hv : R.1 r < 10 ^ 40 := (h r).1
    obtain ⟨g, hg⟩ : ∃ g, 128 = s + (40 + g) := ⟨128 - s - 40, by omega⟩
    have e3 : dl_v 10 e2 (128 * n) 128 = dl_v 10 e2 (128 * n) (s + (40 + g)) := by rw [← hg]
    rw [e3, dl_app, dl_z (fun k hk => by rw [f2 _ (by omega)]; exact z1 _ (by omega) (by omega)), Nat.zero_add, dl_ext (m := 40) (by omega) (fun k k1 k2 => by rw [f2 _ (by omega)]; exact z1 _ (by omega) (by omega)), Nat.mul_comm]
    refine congrArg (· * 10 ^ s) (dl_of' hv (fun k hk => ?_))
    rw [h2 k (by omega) hk]
    unfold rg_d
    rw [(rg_40 hk).1, (rg_40 hk).2]
theorem ys_l {n : Nat} {e : Nat → Nat} (hn : n < 4) (hB : ∀ k, k < 128 → e (128 * n + k) < 10) : ∀ k : Nat, k ≤ 128 →
    (∀ j, j ≤ k → (∀ i, j ≤ i → i < k → e (128 * n + i) = 0) → (j = 0 ∨ 0 < e (128 * n + (j - 1))) → pi (nI j)) →
    wY_size_4 pi (nI n) gP gT gW gJ gV gE bD bG bP (dn_A e) bL bT bO bH (k + 1) (nI k)
  | 0, _, K => pk_le 0 0 (fun _ => K 0 (Nat.le_refl _) (fun i _ _ => by omega) (Or.inl rfl)) (fun z => by omega)
  | k + 1, h, K => pk_le (k + 1) 0 (fun z => by omega) (fun _ => ⟨pk_in (128 * n + k) 512 (by omega) (ni_8m n k),
      pk_eq (e (128 * n + k)) 0 (fun z => nm_r (pk_m1 k) (ys_l hn hB k (by omega) (fun j h1 h2 h3 => K j (by omega) (fun i g1 g2 => by
        rcases Nat.lt_or_ge i k with q | q
        · exact h2 i g1 q
        · rw [show i = k by omega]; exact z) h3)))
        (fun z => K (k + 1) (Nat.le_refl _) (fun i _ _ => by omega) (Or.inr (by show 0 < e (128 * n + k); omega)))
        (dn_rd (128 * n + k) (ni_8m n k) (by omega)) rfl (by have := hB k (by omega); omega)⟩)
/-- the number of digits -/
theorem y_size {e : Nat → Nat} {n v : Nat} (hn : n < 4) (h : ar_ e n v)
    (K : ∀ k, k ≤ 128 → v = dl_v 10 e (128 * n) k → v < 10 ^ k → (k = 0 ∨ 10 ^ (k - 1) ≤ v) → pi (nI k)) :
    wpY_size pi (gP, gT, gW, gJ, gV, gE, bD, bG, bP, dn_A e, bL, bT, bO, bH) (nI n) :=
  ⟨129, ys_l hn h.1 128 (Nat.le_refl _) (fun j h1 h2 h3 => by
    have e1 : v = dl_v 10 e (128 * n) j := by rw [← h.2]; exact dl_ext h1 h2
    refine K j h1 e1 (by rw [e1]; exact dl_lt (fun k hk => h.1 k (by omega))) ?_
    rcases h3 with z | z
    · exact Or.inl z
    · rcases Nat.eq_zero_or_pos j with y | y
      · exact Or.inl y
      · right; rw [← h.2]; exact dl_ge (by omega) z)⟩
theorem sz_eq {v k j : Nat} (h1 : v < 10 ^ k) (h2 : k = 0 ∨ 10 ^ (k - 1) ≤ v) (h3 : v < 10 ^ j) : k ≤ j := by
  rcases Nat.lt_or_ge j k with z | z
  · rcases h2 with y | y
    · omega
    · have := Nat.pow_le_pow_right (n := 10) (by decide) (show j ≤ k - 1 by omega)
      omega
  · exact z
theorem yo_71 {n m k a b : Nat} {e : Nat → Nat} (hn : n < 4) (hm : m < 4) (ha : ar_ e n a) (hb : ar_ e m b) (hk : k < 128) (hu : ∀ j, k < j → j < 128 → e (128 * n + j) = e (128 * m + j)) (hz : e (128 * n + k) ≠ e (128 * m + k))
    (K : pi (cm_ a b)) : wY_order_71 pi (nI n) (nI m) (nI k) gP gT gW gJ gV gE bD bG bP (dn_A e) bL bT bO bH := by
  have h1 := ha.1 k hk
  have h2 := hb.1 k hk
  have ra : dn_A e (128 * nI n + nI k).toNatClampNeg = nI (e (128 * n + k)) := dn_rd _ (ni_8 _ _) (by omega)
  have rb : dn_A e (128 * nI m + nI k).toNatClampNeg = nI (e (128 * m + k)) := dn_rd _ (ni_8 _ _) (by omega)
  refine br_t (nI_pos' (by omega)) ⟨pk_in (128 * n + k) 512 (by omega) (ni_8 _ _), pk_in (128 * m + k) 512 (by omega) (ni_8 _ _), pk_le (e (128 * m + k)) (e (128 * n + k)) (fun z => ?_) (fun z => ?_) rb ra⟩
  · rw [← ha.2, ← hb.2, cm_gt (dl_lex hk (fun j hj => hb.1 j hj) (fun j hj => ha.1 j hj) (fun j g1 g2 => (hu j g1 g2).symm) (by omega))] at K
    exact K
  · rw [← ha.2, ← hb.2, cm_lt (dl_lex hk (fun j hj => ha.1 j hj) (fun j hj => hb.1 j hj) (fun j g1 g2 => hu j g1 g2) z)] at K
    exact K
theorem yo_l {n m a b : Nat} {e : Nat → Nat} (hn : n < 4) (hm : m < 4) (ha : ar_ e n a) (hb : ar_ e m b) (K : pi (cm_ a b)) : ∀ k : Nat, k ≤ 128 → (∀ j, k ≤ j → j < 128 → e (128 * n + j) = e (128 * m + j)) →
    wY_order_34 pi (nI n) (nI m) gP gT gW gJ gV gE bD bG bP (dn_A e) bL bT bO bH (k + 1) (nI k + (-1))
  | 0, hk, hu => by
    rw [← ha.2, ← hb.2, cm_eq (dl_congr (fun j hj => hu j (by omega) hj))] at K
    exact br_t (by decide) (br_f (by decide) K)
  | k + 1, hk, hu => by
    rw [pk_m1]
    refine br_f (nI_pos (by omega)) ⟨pk_in (128 * n + k) 512 (by omega) (ni_8 _ _), pk_in (128 * m + k) 512 (by omega) (ni_8 _ _),
      pk_eq (e (128 * n + k)) (e (128 * m + k)) (fun z => nm_e (yo_l hn hm ha hb K k (by omega) (fun j g1 g2 => ?_))) (fun z => yo_71 hn hm ha hb (by omega) (fun j g1 g2 => hu j g1 g2) z K) (dn_rd _ (ni_8 _ _) (by omega)) (dn_rd _ (ni_8 _ _) (by omega)) (by have := ha.1 k (by omega); omega) (by have := hb.1 k (by omega); omega)⟩
    rcases Nat.eq_or_lt_of_le g1 with q | q
    · rw [← q]; exact z
    · exact hu j q g2
theorem y_order {e : Nat → Nat} {n m a b : Nat} (hn : n < 4) (hm : m < 4) (ha : ar_ e n a) (hb : ar_ e m b) (K : pi (cm_ a b)) :
    wpY_order pi (gP, gT, gW, gJ, gV, gE, bD, bG, bP, dn_A e, bL, bT, bO, bH) (nI n) (nI m) := by
  unfold wpY_order
  refine y_size hn ha (fun k hk ek k1 k2 => y_size hm hb (fun j hj ej j1 j2 => pk_eq k j (fun z => nm_e ⟨k + 1, ?_⟩) (fun z => pk_le j k (fun y => ?_) (fun y => ?_))))
  · refine yo_l hn hm ha hb K k hk (fun i g1 g2 => ?_)
    subst z
    rw [dl_top (B := 10) (d := e) (a := 128 * n) (by decide) hk (by rw [ha.2]; exact k1) i g1 g2, dl_top (B := 10) (d := e) (a := 128 * m) (by decide) hk (by rw [hb.2]; exact j1) i g1 g2]
  · have : b < a := by
      rcases k2 with q | q
      · omega
      · have := Nat.pow_le_pow_right (n := 10) (by decide) (show j ≤ k - 1 by omega)
        omega
    rw [cm_gt this] at K
    exact K
  · have : a < b := by
      rcases j2 with q | q
      · omega
      · have := Nat.pow_le_pow_right (n := 10) (by decide) (show k ≤ j - 1 by omega)
        omega
    rw [cm_lt this] at K
    exact K
end
end
section
/-! sums, differences, shifts of the reference -/
section
variable {gP gT gW gJ gV gE : Int32} {bD bG bP bW bL bT bO bH : Nat → Int32}
variable {post : SY → Prop} {pr : Int32 → SY → Prop} {pi : Int32 → Prop}
theorem yp_l {n m L : Nat} (hL : L = 128) (hn : n < 4) (hm : m < 4) (hnm : n ≠ m) : ∀ (r k c : Nat) (d : Nat → Nat), k + r = L → c ≤ 1 → (∀ j, k ≤ j → j < L → d (128 * n + j) < 10) → (∀ j, k ≤ j → j < L → d (128 * m + j) < 10) →
    (∀ d' c', (∀ j, k ≤ j → j < L → d' (128 * n + j) < 10) → dl_v 10 d' (128 * n + k) r + c' * 10 ^ r = dl_v 10 d (128 * n + k) r + dl_v 10 d (128 * m + k) r + c → fr_ d d' (128 * n + k) (128 * n + L) → post (gP, gT, gW, gJ, gV, gE, bD, bG, bP, dn_A d', bL, bT, bO, bH)) →
    wY_plus_5 post (nI n) (nI m) gP gT gW gJ gV gE (r + 1) (nI c) (nI k) bD bG bP (dn_A d) bL bT bO bH
  | 0, k, c, d, hk, hc, h1, h2, K => pk_le 128 k (fun _ => K d c h1 (by simp only [dl_0]; omega) fr_r) (fun z => by omega)
  | r + 1, k, c, d, hk, hc, h1, h2, K => by
    have g1 := h1 k (by omega) (by omega)
    have g2 := h2 k (by omega) (by omega)
    generalize ev : d (128 * n + k) + d (128 * m + k) + c = v
    refine pk_le 128 k (fun z => by omega) (fun _ => ⟨pk_in (128 * n + k) 512 (by omega) (ni_8 _ _), pk_in (128 * m + k) 512 (by omega) (ni_8 _ _),
      nm_r (e' := nI v) (by rw [dn_rd _ (ni_8 n k) (by omega), dn_rd _ (ni_8 m k) (by omega), nI_add, nI_add, ev])
      ⟨by decide, pk_in (128 * n + k) 512 (by omega) (ni_8 _ _), nm_r (dn_st (128 * n + k) (v % 10) (ni_8 _ _) (pk_rem (d := 10) (by omega) (by decide) (by decide)) (by omega))
      ⟨by decide, nm_r (pk_div (d := 10) (by omega) (by decide) (by decide)) (nm_r (nI_1 k) (yp_l hL hn hm hnm r (k + 1) (v / 10) _ (by omega) (by omega) (fun j j1 j2 => by rw [dn_un (by omega)]; exact h1 j (by omega) j2) (fun j j1 j2 => by rw [dn_un (by omega)]; exact h2 j (by omega) j2)
        (fun d' c' b' e' f' => K d' c' (fun j j1 j2 => ?_) ?_ (fr_k f' (by omega) (by omega) (by omega) (by omega)))))⟩⟩⟩)
    · rcases Nat.eq_or_lt_of_le j1 with q | q
      · subst q; rw [f' _ (by omega), dn_us]; omega
      · exact b' j q j2
    · rw [dl_low, dl_low, dl_low, f' (128 * n + k) (by omega), dn_us, Nat.pow_succ, ← Nat.mul_assoc]
      rw [dl_u (by omega), dl_u (by omega)] at e'
      rw [show 128 * n + (k + 1) = 128 * n + k + 1 from rfl, show 128 * m + (k + 1) = 128 * m + k + 1 from rfl] at e'
      generalize c' * 10 ^ r = Q at *
      omega
theorem ov_0 {x y c P : Nat} (h : x + c * P = y) (ho : y < P) : x = y := by
  rcases Nat.eq_zero_or_pos c with z | z
  · subst z; omega
  · have := Nat.le_mul_of_pos_left P z
    omega
theorem yp_g {e : Nat → Nat} {n m L : Nat} (hL : L = 128) (hn : n < 4) (hm : m < 4) (hnm : n ≠ m) (h1 : ∀ j, j < L → e (128 * n + j) < 10) (h2 : ∀ j, j < L → e (128 * m + j) < 10)
    (K : ∀ d' c', (∀ j, j < L → d' (128 * n + j) < 10) → dl_v 10 d' (128 * n) L + c' * 10 ^ L = dl_v 10 e (128 * n) L + dl_v 10 e (128 * m) L → fr_ e d' (128 * n) (128 * n + L) → post (gP, gT, gW, gJ, gV, gE, bD, bG, bP, dn_A d', bL, bT, bO, bH)) :
    wpY_plus post (gP, gT, gW, gJ, gV, gE, bD, bG, bP, dn_A e, bL, bT, bO, bH) (nI n) (nI m) :=
  ⟨L + 1, yp_l hL hn hm hnm L 0 0 e (by omega) (by decide) (fun j _ h => h1 j h) (fun j _ h => h2 j h) (fun d' c' b' e' f' => K d' c' (fun k hk => b' k (by omega) hk) (by
    rw [Nat.add_zero, Nat.add_zero, Nat.add_zero] at e'; exact e') f')⟩
theorem y_plus {e : Nat → Nat} {n m a b : Nat} (hn : n < 4) (hm : m < 4) (hnm : n ≠ m) (ha : ar_ e n a) (hb : ar_ e m b) (ho : a + b < 10 ^ 128)
    (K : ∀ e', ar_ e' n (a + b) → fr_ e e' (128 * n) (128 * n + 128) → post (gP, gT, gW, gJ, gV, gE, bD, bG, bP, dn_A e', bL, bT, bO, bH)) :
    wpY_plus post (gP, gT, gW, gJ, gV, gE, bD, bG, bP, dn_A e, bL, bT, bO, bH) (nI n) (nI m) := by
  refine yp_g rfl hn hm hnm ha.1 hb.1 (fun d' c' b' e' f' => K d' ⟨b', ?_⟩ f')
  rw [ha.2, hb.2] at e'
  exact ov_0 e' ho
theorem yn_l {n m t : Nat} (hn : n < 4) (hm : m < 4) (hnm : n ≠ m) (ht : t ≤ 128) : ∀ (r k c : Nat) (d : Nat → Nat), k + r = t → c ≤ 1 → (∀ j, k ≤ j → j < t → d (128 * n + j) < 10) → (∀ j, k ≤ j → j < t → d (128 * m + j) < 10) →
    (∀ d' c', (∀ j, k ≤ j → j < t → d' (128 * n + j) < 10) → dl_v 10 d' (128 * n + k) r + dl_v 10 d (128 * m + k) r + c = dl_v 10 d (128 * n + k) r + c' * 10 ^ r → fr_ d d' (128 * n + k) (128 * n + t) → post (gP, gT, gW, gJ, gV, gE, bD, bG, bP, dn_A d', bL, bT, bO, bH)) →
    wY_minus_12 post (nI n) (nI m) (nI t) gP gT gW gJ gV gE (r + 1) (nI c) (nI k) bD bG bP (dn_A d) bL bT bO bH
  | 0, k, c, d, hk, hc, h1, h2, K => pk_le t k (fun _ => K d c h1 (by simp only [dl_0]; omega) fr_r) (fun z => by omega)
  | r + 1, k, c, d, hk, hc, h1, h2, K => by
    have g1 := h1 k (by omega) (by omega)
    have g2 := h2 k (by omega) (by omega)
    have go : ∀ (x6 : Int32) (q s : Nat), q ≤ 1 → s < 10 → s + (d (128 * m + k) + c) = d (128 * n + k) + 10 * q → x6 + 10 * nI q = nI s →
        wY_minus_60 post (wY_minus_12 post (nI n) (nI m) (nI t) gP gT gW gJ gV gE (r + 1)) (nI n) (nI m) (nI t) (nI k) x6 (nI q) gP gT gW gJ gV gE bD bG bP (dn_A d) bL bT bO bH := by
      intro x6 q s hq hs hh hx
      refine ⟨pk_in (128 * n + k) 512 (by omega) (ni_8 _ _), nm_r (dn_st (128 * n + k) s (ni_8 _ _) hx (by omega)) (nm_r (nI_1 k) (yn_l hn hm hnm ht r (k + 1) q _ (by omega) hq (fun j j1 j2 => by rw [dn_un (by omega)]; exact h1 j (by omega) j2) (fun j j1 j2 => by rw [dn_un (by omega)]; exact h2 j (by omega) j2)
        (fun d' c' b' e' f' => K d' c' (fun j j1 j2 => ?_) ?_ (fr_k f' (by omega) (by omega) (by omega) (by omega)))))⟩
      · rcases Nat.eq_or_lt_of_le j1 with q | q
        · subst q; rw [f' _ (by omega), dn_us]; exact hs
        · exact b' j q j2
      · rw [dl_low, dl_low, dl_low, f' (128 * n + k) (by omega), dn_us, Nat.pow_succ, ← Nat.mul_assoc]
        rw [dl_u (by omega), dl_u (by omega)] at e'
        rw [show 128 * n + (k + 1) = 128 * n + k + 1 from rfl, show 128 * m + (k + 1) = 128 * m + k + 1 from rfl] at e'
        generalize c' * 10 ^ r = Q at *
        omega
    refine pk_le t k (fun z => by omega) (fun _ => ⟨pk_in (128 * n + k) 512 (by omega) (ni_8 _ _), pk_in (128 * m + k) 512 (by omega) (ni_8 _ _),
      nm_r (e' := nI (d (128 * n + k)) - nI (d (128 * m + k) + c)) (by rw [dn_rd _ (ni_8 n k) (by omega), dn_rd _ (ni_8 m k) (by omega), ni_ss]) ?_⟩)
    rcases Nat.lt_or_ge (d (128 * n + k)) (d (128 * m + k) + c) with z | z
    · refine br_f (ni_sn (by omega) (by omega) z) (go _ 1 (d (128 * n + k) + 10 - (d (128 * m + k) + c)) (by decide) (by omega) (by omega) ?_)
      rw [show (10 : Int32) * nI 1 = nI 10 by decide, ni_sb _ _ _ (by omega)]
    · rw [pk_sub z]
      refine br_t (nI_pos' (by omega)) (go _ 0 (d (128 * n + k) - (d (128 * m + k) + c)) (by decide) (by omega) (by omega) ?_)
      rw [show (10 : Int32) * nI 0 = nI 0 by decide, nI_add]; rfl
theorem y_minus {e : Nat → Nat} {n m a b : Nat} (hn : n < 4) (hm : m < 4) (hnm : n ≠ m) (ha : ar_ e n a) (hb : ar_ e m b) (ho : b ≤ a)
    (K : ∀ e', ar_ e' n (a - b) → fr_ e e' (128 * n) (128 * n + 128) → post (gP, gT, gW, gJ, gV, gE, bD, bG, bP, dn_A e', bL, bT, bO, bH)) :
    wpY_minus post (gP, gT, gW, gJ, gV, gE, bD, bG, bP, dn_A e, bL, bT, bO, bH) (nI n) (nI m) := by
  unfold wpY_minus
  refine y_size hn ha (fun t ht et t1 t2 => ⟨t + 1, yn_l hn hm hnm ht t 0 0 e (by omega) (by decide) (fun j _ h => ha.1 j (by omega)) (fun j _ h => hb.1 j (by omega)) (fun d' c' b' e' f' => ?_)⟩)
  simp only [Nat.add_zero] at e'
  have e2 := e'
  have e3 : dl_v 10 e (128 * m) t = b := by
    rw [← hb.2]; exact (dl_cut (by decide) ht (by rw [hb.2]; omega)).symm
  rw [e3, ← et] at e2
  have L : dl_v 10 d' (128 * n) t < 10 ^ t := dl_lt (fun k hk => b' k (by omega) hk)
  have hc : c' = 0 := by
    rcases Nat.eq_zero_or_pos c' with z | z
    · exact z
    · have := Nat.le_mul_of_pos_left (10 ^ t) z
      omega
  subst hc
  have hz : ∀ k, t ≤ k → k < 128 → e (128 * n + k) = 0 := dl_top (B := 10) (by decide) ht (by rw [ha.2]; exact t1)
  refine K d' ⟨fun k hk => ?_, ?_⟩ (fun j hj => f' j (by omega))
  · rcases Nat.lt_or_ge k t with q | q
    · exact b' k (by omega) q
    · rw [f' _ (by omega)]; exact ha.1 k hk
  · rw [dl_ext (m := t) ht (fun k k1 k2 => by rw [f' _ (by omega)]; exact hz k k1 k2)]
    omega
theorem ya_l {n g : Nat} (hn : n < 4) : ∀ (k : Nat) (d : Nat → Nat), k < 128 →
    (∀ d', d' (128 * n) = g → (∀ j, j < k → d' (128 * n + (j + 1)) = d (128 * n + j)) → fr_ d d' (128 * n) (128 * n + (k + 1)) → post (gP, gT, gW, gJ, gV, gE, bD, bG, bP, dn_A d', bL, bT, bO, bH)) →
    wY_append_3 post (nI n) (nI g) gP gT gW gJ gV gE (k + 1) (nI k) bD bG bP (dn_A d) bL bT bO bH
  | 0, d, hk, K => pk_le 0 0 (fun _ => ⟨pk_in (128 * n) 512 (by omega) (ni_80 n), nm_r (dn_st (128 * n) g (ni_80 n) rfl (by omega)) (K _ dn_us (fun j hj => by omega) (fr_u (by omega) (by omega)))⟩) (fun z => by omega)
  | k + 1, d, hk, K => by
    refine pk_le (k + 1) 0 (fun z => by omega) (fun _ => ⟨pk_in (128 * n + k) 512 (by omega) (ni_8m n k), pk_in (128 * n + (k + 1)) 512 (by omega) (ni_8 _ _), nm_r (dn_st (128 * n + (k + 1)) (d (128 * n + k)) (ni_8 _ _) (dn_rd _ (ni_8m n k) (by omega)) (by omega))
      (nm_r (pk_m1 k) (ya_l hn k _ (by omega) (fun d' h1 h2 h3 => K d' h1 (fun j hj => ?_) (fr_k h3 (by omega) (by omega) (by omega) (by omega)))))⟩)
    rcases Nat.lt_or_ge j k with q | q
    · rw [h2 j q, dn_un (by omega)]
    · rw [show j = k by omega, h3 _ (by omega), dn_us]
theorem y_append {e : Nat → Nat} {n v : Nat} (g : Nat) (hn : n < 4) (ha : ar_ e n v) (hg : g < 10) (ho : v * 10 + g < 10 ^ 128)
    (K : ∀ e', ar_ e' n (v * 10 + g) → fr_ e e' (128 * n) (128 * n + 128) → post (gP, gT, gW, gJ, gV, gE, bD, bG, bP, dn_A e', bL, bT, bO, bH)) :
    wpY_append post (gP, gT, gW, gJ, gV, gE, bD, bG, bP, dn_A e, bL, bT, bO, bH) (nI n) (nI g) :=
  ⟨128, ya_l hn 127 e (by decide) (fun d' h1 h2 h3 => K d' ⟨fun k hk => by
    rcases Nat.eq_zero_or_pos k with z | z
    · subst z; rw [Nat.add_zero, h1]; exact hg
    · have := h2 (k - 1) (by omega)
      rw [show k - 1 + 1 = k by omega] at this
      rw [this]; exact ha.1 _ (by omega), by
    rw [show (128 : Nat) = 127 + 1 from rfl, dl_low, h1, dl_congr (e := e) (b := 128 * n) (fun k hk => by
      rw [Nat.add_assoc, Nat.add_comm 1 k]; exact h2 k hk)]
    have hc : dl_v 10 e (128 * n) 127 = v := by
      rw [← ha.2]
      refine (dl_cut (by decide) (by decide) ?_).symm
      rw [ha.2]
      omega
    show g + 10 * dl_v 10 e (128 * n) 127 = _
    rw [hc]
    omega⟩ h3)⟩
theorem yd_l {n c : Nat} (hn : n < 4) (hc : c < 1000) : ∀ (m i : Nat) (d : Nat → Nat), i + m = 128 →
    (∀ d', (∀ j, i ≤ j → j < 128 → d' (128 * n + j) = if j + c < 128 then d (128 * n + j + c) else 0) → fr_ d d' (128 * n + i) (128 * n + 128) → post (gP, gT, gW, gJ, gV, gE, bD, bG, bP, dn_A d', bL, bT, bO, bH)) →
    wY_drop_2 post (nI n) (nI c) gP gT gW gJ gV gE (m + 1) (nI i) bD bG bP (dn_A d) bL bT bO bH
  | 0, i, d, hi, K => pk_le 128 i (fun _ => K d (fun j _ _ => by omega) fr_r) (fun z => by omega)
  | m + 1, i, d, hi, K => by
    have i2 : (128 : Int32) * nI n + nI i + nI c = nI (128 * n + i + c) := by rw [ni_8, nI_add]
    refine pk_le 128 i (fun z => by omega) (fun _ => pk_le 128 (i + c) (fun z => ⟨pk_in (128 * n + i) 512 (by omega) (ni_8 _ _), nm_r (dn_st (128 * n + i) 0 (ni_8 _ _) rfl (by omega)) (nm_r (nI_1 i) (yd_l hn hc m (i + 1) _ (by omega) (fun d' e' f' => K d' (fun j g1 g2 => ?_) (fr_k f' (by omega) (by omega) (by omega) (by omega)))))⟩)
      (fun z => ⟨pk_in (128 * n + i + c) 512 (by omega) i2, pk_in (128 * n + i) 512 (by omega) (ni_8 _ _), nm_r (dn_st (128 * n + i) (d (128 * n + i + c)) (ni_8 _ _) (dn_rd _ i2 (by omega)) (by omega)) (nm_r (nI_1 i) (yd_l hn hc m (i + 1) _ (by omega) (fun d' e' f' => K d' (fun j g1 g2 => ?_) (fr_k f' (by omega) (by omega) (by omega) (by omega)))))⟩) rfl (nI_add _ _))
    · rcases Nat.eq_or_lt_of_le g1 with q | q
      · subst q
        rw [f' (128 * n + i) (by omega), dn_us, if_neg (by omega)]
      · rw [e' j q g2, dn_un (by omega)]
    · rcases Nat.eq_or_lt_of_le g1 with q | q
      · subst q
        rw [f' (128 * n + i) (by omega), dn_us, if_pos z]
      · rw [e' j q g2, dn_un (by omega)]
theorem y_drop {e : Nat → Nat} {n v : Nat} (c : Nat) (hn : n < 4) (ha : ar_ e n v) (hc : c < 1000)
    (K : ∀ e', ar_ e' n (v / 10 ^ c) → fr_ e e' (128 * n) (128 * n + 128) → post (gP, gT, gW, gJ, gV, gE, bD, bG, bP, dn_A e', bL, bT, bO, bH)) :
    wpY_drop post (gP, gT, gW, gJ, gV, gE, bD, bG, bP, dn_A e, bL, bT, bO, bH) (nI n) (nI c) :=
  ⟨129, yd_l hn hc 128 0 e rfl (fun d' e' f' => K d' (ar_of (Nat.lt_of_le_of_lt (Nat.div_le_self _ _) (ar_lt ha)) (fun k hk => by
    rw [e' k (by omega) hk]
    by_cases z : k + c < 128
    · rw [if_pos z, Nat.add_assoc, ar_d ha z, Nat.div_div_eq_div_mul, ← Nat.pow_add, Nat.add_comm c k]
    · rw [if_neg z, Nat.div_div_eq_div_mul, ← Nat.pow_add, Nat.div_eq_of_lt]
      exact Nat.lt_of_lt_of_le (ar_lt ha) (Nat.pow_le_pow_right (by decide) (by omega)))) f')⟩
end
end
section
/-! product and quotient of the reference -/
theorem dl_add {B : Nat} {d : Nat → Nat} {a n p x : Nat} (hp : p < n) : dl_v B (dn_u d (a + p) (d (a + p) + x)) a n = dl_v B d a n + x * B ^ p := by
  obtain ⟨r, rfl⟩ : ∃ r, n = p + 1 + r := ⟨n - p - 1, by omega⟩
  rw [dl_app, dl_app (p + 1), dl_s, dl_s, dn_us, dl_u (by omega), dl_u (by omega), Nat.add_mul]
  omega
theorem pa_c {B v c X Y P c' t : Nat} (hv : v = t + c) (H : X + c' * P = Y + v / B) : (v % B + B * X) + c' * (P * B) = (t + B * Y) + c := by
  have h := Nat.div_add_mod v B
  have h2 : B * (X + c' * P) = B * (Y + v / B) := by rw [H]
  rw [Nat.mul_add, Nat.mul_add] at h2
  rw [show c' * (P * B) = B * (c' * P) by rw [← Nat.mul_assoc, Nat.mul_comm]]
  omega
section
variable {gP gT gW gJ gV gE : Int32} {bD bG bP bW bL bT bO bH : Nat → Int32}
variable {post : SY → Prop} {pr : Int32 → SY → Prop} {pi : Int32 → Prop}
/-- one row: g times the digits of number n, from place j on -/
theorem yt_29 {J : Int32 → (Nat → Int32) → (Nat → Int32) → (Nat → Int32) → (Nat → Int32) → (Nat → Int32) → (Nat → Int32) → (Nat → Int32) → (Nat → Int32) → Prop}
    {n r j g M L : Nat} (hL : L = 128) (hn : n < 3) (hj : j < 40) (hg : g < 10) (hM : M ≤ 81 * 40) : ∀ (m k : Nat) (d : Nat → Nat), k + m = 84 → (∀ i, i < 84 → d (128 * n + i) < 10) → (∀ i, i < L → d (384 + i) ≤ M + (if j ≤ i ∧ i < j + k then 81 else 0)) →
    (∀ d', (∀ i, i < L → d' (384 + i) ≤ M + 81) → dl_v 10 d' 384 L = dl_v 10 d 384 L + g * dl_v 10 d (128 * n + k) m * 10 ^ (j + k) → fr_ d d' 384 (384 + L) → J (nI (j + 1)) bD bG bP (dn_A d') bL bT bO bH) →
    wY_times_29 post J (nI n) (nI r) (nI j) (nI g) gP gT gW gJ gV gE (m + 1) (nI k) bD bG bP (dn_A d) bL bT bO bH
  | 0, k, d, hk, h1, h2, K => pk_le 84 k (fun _ => nm_r (nI_1 j) (K d (fun i hi => Nat.le_trans (h2 i hi) (by
      by_cases z : j ≤ i ∧ i < j + k
      · rw [if_pos z]; omega
      · rw [if_neg z]; omega)) (by simp only [dl_0, Nat.mul_zero, Nat.zero_mul, Nat.add_zero]) fr_r)) (fun z => by omega)
  | m + 1, k, d, hk, h1, h2, K => by
    have i1 : (384 : Int32) + nI j + nI k = nI (384 + (j + k)) := by rw [show (384 : Int32) = nI 384 by decide, ni_3, Nat.add_assoc]
    have g1 := h1 k (by omega)
    have g2 := h2 (j + k) (by omega)
    rw [if_neg (by omega)] at g2
    have g3 : g * d (128 * n + k) ≤ 9 * 9 := Nat.mul_le_mul (by omega) (by omega)
    refine pk_le 84 k (fun z => by omega) (fun _ => ⟨pk_in _ 512 (by omega) i1, pk_in (128 * n + k) 512 (by omega) (ni_8 _ _), pk_in _ 512 (by omega) i1,
      nm_r (dn_st (384 + (j + k)) (d (384 + (j + k)) + g * d (128 * n + k)) i1 (by rw [dn_rd _ i1 (by omega), dn_rd _ (ni_8 n k) (by omega), pk_mul, nI_add]) (by omega))
      (nm_r (nI_1 k) (yt_29 hL hn hj hg hM m (k + 1) _ (by omega) (fun i hi => by rw [dn_un (by omega)]; exact h1 i hi) (fun i hi => ?_) (fun d' b' e' f' => K d' b' ?_ (fr_k f' (by omega) (by omega) (by omega) (by omega)))))⟩)
    · by_cases z : i = j + k
      · subst z
        rw [dn_us, if_pos (by omega)]
        omega
      · rw [dn_un (by omega)]
        have := h2 i hi
        by_cases y : j ≤ i ∧ i < j + k
        · rw [if_pos y] at this; rw [if_pos (by omega)]; exact this
        · rw [if_neg y] at this; rw [if_neg (by omega)]; exact this
    · rw [e', dl_add (by omega), dl_u (by omega), dl_low (n := m), Nat.mul_add, Nat.add_mul, show j + (k + 1) = j + k + 1 from rfl, Nat.pow_succ, show 128 * n + (k + 1) = 128 * n + k + 1 from rfl]
      rw [show g * (10 * dl_v 10 d (128 * n + k + 1) m) * 10 ^ (j + k) = g * dl_v 10 d (128 * n + k + 1) m * (10 ^ (j + k) * 10) by
        rw [Nat.mul_left_comm g 10, Nat.mul_comm 10, Nat.mul_assoc, Nat.mul_comm 10]]
      omega
theorem yt_7 {R : RR_} {n r a L : Nat} (hL : L = 128) (hn : n < 3) (hr : r < 32) : ∀ (m j : Nat) (d : Nat → Nat), j + m = 40 → (∀ i, i < 84 → d (128 * n + i) < 10) → dl_v 10 d (128 * n) 84 = a → (∀ i, i < L → d (384 + i) ≤ 81 * j) → dl_v 10 d 384 L = R.1 r % 10 ^ j * a →
    (∀ d', (∀ i, i < L → d' (384 + i) ≤ 81 * 40) → dl_v 10 d' 384 L = R.1 r % 10 ^ 40 * a → fr_ d d' 384 (384 + L) → ∃ n85, wY_times_85 post (nI n) gP gT gW gJ gV gE n85 0 0 (dn_A (rg_d R.1)) R.2.1 (dn_A R.2.2) (dn_A d') bL bT bO bH) →
    wY_times_7 post (nI n) (nI r) gP gT gW gJ gV gE (m + 1) (nI j) (dn_A (rg_d R.1)) R.2.1 (dn_A R.2.2) (dn_A d) bL bT bO bH
  | 0, j, d, hj, h1, h2, h3, h4, K => pk_le 40 j (fun _ => K d (fun i hi => by have := h3 i hi; omega) (by rw [h4, show j = 40 by omega]) fr_r) (fun z => by omega)
  | m + 1, j, d, hj, h1, h2, h3, h4, K => by
    have hdg : rg_d R.1 (40 * r + j) = R.1 r / 10 ^ j % 10 := by unfold rg_d; rw [(rg_40 (by omega)).1, (rg_40 (by omega)).2]
    have hg : rg_d R.1 (40 * r + j) < 10 := rg_db
    refine pk_le 40 j (fun z => by omega) (fun _ => ⟨pk_in (40 * r + j) 1280 (by omega) (ni_40 _ _), nm_r (dn_rd _ (ni_40 _ _) (by omega)) ⟨85, yt_29 hL hn (by omega) hg (M := 81 * j) (by omega) 84 0 d rfl h1 (fun i hi => by have := h3 i hi; omega) (fun d' b' e' f' => ?_)⟩⟩)
    have h2' : dl_v 10 d' (128 * n) 84 = a := by rw [fr_v f' (by omega), h2]
    refine yt_7 hL hn hr m (j + 1) d' (by omega) (fun i hi => by rw [f' _ (by omega)]; exact h1 i hi) h2' (fun i hi => by have := b' i hi; omega) ?_ (fun d2 b2 e2 f2 => K d2 b2 e2 (fr_t f' f2 (by omega) (by omega) (by omega) (by omega)))
    rw [e', h4, hdg, Nat.add_zero, Nat.add_zero, h2, Nat.pow_succ, Nat.mod_mul, Nat.add_mul, Nat.mul_right_comm, Nat.mul_comm (R.1 r / 10 ^ j % 10)]
theorem yt_85 {n L : Nat} (hL : L = 128) (hn : n < 3) : ∀ (r k c : Nat) (d : Nat → Nat), k + r = L → c ≤ 1000 → (∀ i, i < L → d (384 + i) ≤ 81 * 40) →
    (∀ d' c', (∀ i, k ≤ i → i < L → d' (128 * n + i) < 10) → dl_v 10 d' (128 * n + k) r + c' * 10 ^ r = dl_v 10 d (384 + k) r + c → fr_ d d' (128 * n + k) (128 * n + L) → post (gP, gT, gW, gJ, gV, gE, bD, bG, bP, dn_A d', bL, bT, bO, bH)) →
    wY_times_85 post (nI n) gP gT gW gJ gV gE (r + 1) (nI c) (nI k) bD bG bP (dn_A d) bL bT bO bH
  | 0, k, c, d, hk, hc, h1, K => pk_le 128 k (fun _ => K d c (fun i _ _ => by omega) (by simp only [dl_0]; omega) fr_r) (fun z => by omega)
  | r + 1, k, c, d, hk, hc, h1, K => by
    have g1 := h1 k (by omega)
    generalize ev : d (384 + k) + c = v
    have i1 : (384 : Int32) + nI k = nI (384 + k) := by rw [show (384 : Int32) = nI 384 by decide, nI_add]
    refine pk_le 128 k (fun z => by omega) (fun _ => ⟨pk_in (384 + k) 512 (by omega) i1, nm_r (e' := nI v) (by rw [dn_rd _ i1 (by omega), nI_add, ev])
      ⟨by decide, pk_in (128 * n + k) 512 (by omega) (ni_8 _ _), nm_r (dn_st (128 * n + k) (v % 10) (ni_8 _ _) (pk_rem (d := 10) (by omega) (by decide) (by decide)) (by omega))
      ⟨by decide, nm_r (pk_div (d := 10) (by omega) (by decide) (by decide)) (nm_r (nI_1 k) (yt_85 hL hn r (k + 1) (v / 10) _ (by omega) (by omega) (fun i hi => by rw [dn_un (by omega)]; exact h1 i hi)
        (fun d' c' b' e' f' => K d' c' (fun j j1 j2 => ?_) ?_ (fr_k f' (by omega) (by omega) (by omega) (by omega)))))⟩⟩⟩)
    · rcases Nat.eq_or_lt_of_le j1 with q | q
      · subst q; rw [f' _ (by omega), dn_us]; omega
      · exact b' j q j2
    · rw [dl_low, dl_low, f' (128 * n + k) (by omega), dn_us, Nat.pow_succ]
      refine pa_c ev.symm ?_
      rw [dl_u (by omega)] at e'
      exact e'
theorem yt_g {e : Nat → Nat} {R : RR_} {n r a L : Nat} (hL : L = 128) (hn : n < 3) (hr : r < 32) (h1 : ∀ i, i < 84 → e (128 * n + i) < 10) (h2 : dl_v 10 e (128 * n) 84 = a)
    (K : ∀ d' c', (∀ i, i < L → d' (128 * n + i) < 10) → dl_v 10 d' (128 * n) L + c' * 10 ^ L = R.1 r % 10 ^ 40 * a → (∀ j, j < 384 → (j < 128 * n ∨ 128 * n + 128 ≤ j) → d' j = e j) → post (gP, gT, gW, gJ, gV, gE, dn_A (rg_d R.1), R.2.1, dn_A R.2.2, dn_A d', bL, bT, bO, bH)) :
    wpY_times post (gP, gT, gW, gJ, gV, gE, dn_A (rg_d R.1), R.2.1, dn_A R.2.2, dn_A e, bL, bT, bO, bH) (nI n) (nI r) := by
  unfold wpY_times
  refine y_zero 3 (by decide) (fun e1 a1 z1 f1 => ⟨41, yt_7 (a := a) hL hn hr 40 0 e1 rfl (fun i hi => by rw [f1 _ (by omega)]; exact h1 i hi) (by rw [fr_v f1 (by omega), h2]) (fun i hi => by rw [z1 _ (by omega) (by omega)]; omega) ?_ (fun e2 b2 v2 f2 => ⟨L + 1, yt_85 hL hn L 0 0 e2 (by omega) (by decide) b2 (fun e3 c3 b3 v3 f3 => K e3 c3 (fun i hi => b3 i (by omega) hi) ?_ (fun j j1 j2 => ?_))⟩)⟩)
  · rw [Nat.pow_zero, Nat.mod_one, Nat.zero_mul]
    exact dl_z (fun k hk => z1 _ (by omega) (by omega))
  · rw [Nat.add_zero, Nat.add_zero, Nat.add_zero, v2] at v3; exact v3
  · rw [f3 j (by omega), f2 j (by omega), f1 j (by omega)]
/-- n becomes n times a register's digits; number 3 is lost -/
theorem y_times {e : Nat → Nat} {R : RR_} (h : wf_ R) {n a : Nat} (r : Nat) (hn : n < 3) (hr : r < 32) (ha : ar_ e n a) (ho : a < 10 ^ 84)
    (K : ∀ e', ar_ e' n (a * R.1 r) → (∀ j, j < 384 → (j < 128 * n ∨ 128 * n + 128 ≤ j) → e' j = e j) → post (gP, gT, gW, gJ, gV, gE, dn_A (rg_d R.1), R.2.1, dn_A R.2.2, dn_A e', bL, bT, bO, bH)) :
    wpY_times post (gP, gT, gW, gJ, gV, gE, dn_A (rg_d R.1), R.2.1, dn_A R.2.2, dn_A e, bL, bT, bO, bH) (nI n) (nI r) := by
  have hl := (h r).1
  have h84 : dl_v 10 e (128 * n) 84 = a := by
    rw [← ha.2]; exact (dl_cut (by decide) (by decide) (by rw [ha.2]; exact ho)).symm
  refine yt_g rfl hn hr (fun i hi => ha.1 i (by omega)) h84 (fun d' c' b' e' f' => K d' ⟨b', ?_⟩ f')
  rw [Nat.mod_eq_of_lt hl, Nat.mul_comm (R.1 r) a] at e'
  refine ov_0 e' ?_
  have h1 : a * R.1 r < 10 ^ 84 * 10 ^ 40 := Nat.mul_lt_mul'' ho hl
  rw [← Nat.pow_add] at h1
  exact Nat.lt_trans h1 (Nat.pow_lt_pow_right (by decide) (by decide))
end
end
section
/-! quotient and keeping of the reference -/
theorem qs_ {M D g q : Nat} (hD : 0 < D) (hq : q = (M % D * 10 + g) / D) : M / D * 10 + q = (M * 10 + g) / D ∧ (M % D * 10 + g) % D = (M * 10 + g) % D := by
  have e : M * 10 + g = (M % D * 10 + g) + D * (M / D * 10) := by
    have := Nat.div_add_mod M D
    rw [← Nat.mul_assoc]
    generalize D * (M / D) = x at *
    omega
  rw [e, Nat.add_mul_div_left _ _ hD, Nat.add_mul_mod_self_left, hq]
  exact ⟨Nat.add_comm _ _, rfl⟩
section
variable {gP gT gW gJ gV gE : Int32} {bD bG bP bW bL bT bO bH : Nat → Int32}
variable {post : SY → Prop} {pr : Int32 → SY → Prop} {pi : Int32 → Prop}
theorem yq_35 {J : Int32 → Int32 → Int32 → Int32 → Int32 → Int32 → Int32 → (Nat → Int32) → (Nat → Int32) → (Nat → Int32) → (Nat → Int32) → (Nat → Int32) → (Nat → Int32) → (Nat → Int32) → (Nat → Int32) → Prop}
    {i D T Q2 : Nat} {e0 : Nat → Nat} (hD : 0 < D) (hT : T < 10 * D) (hQ : Q2 * 10 + T / D < 10 ^ 128)
    (K : ∀ e', ar_ e' 1 D → ar_ e' 2 (Q2 * 10 + T / D) → ar_ e' 3 (T % D) → (∀ j, j < 128 → e' j = e0 j) → J (nI i + (-1)) gP gT gW gJ gV gE bD bG bP (dn_A e') bL bT bO bH) :
    ∀ (f g : Nat) (e : Nat → Nat), g * D ≤ T → T < (g + f) * D → ar_ e 1 D → ar_ e 2 Q2 → ar_ e 3 (T - g * D) → (∀ j, j < 128 → e j = e0 j) →
    wY_quotient_35 post J (nI i) (f + 1) (nI g) gP gT gW gJ gV gE bD bG bP (dn_A e) bL bT bO bH
  | f, g, e, hg, hf, a1, a2, a3, h0 => by
    have hg10 : g < 10 := by
      rcases Nat.lt_or_ge g 10 with z | z
      · exact z
      · have := Nat.mul_le_mul_right D z
        omega
    have hend : ¬ D ≤ T - g * D → wY_quotient_62 post J (nI i) (nI g) gP gT gW gJ gV gE bD bG bP (dn_A e) bL bT bO bH := by
      intro z
      have hq : T / D = g := Nat.div_eq_of_lt_le hg (by rw [Nat.add_mul, Nat.one_mul]; omega)
      have hr : T % D = T - g * D := by
        have := Nat.div_add_mod T D
        rw [hq, Nat.mul_comm] at this
        omega
      refine y_append (n := 2) g (by decide) a2 hg10 (by rw [← hq]; exact hQ) (fun e1 b1 f1 => nm_e (K e1 (ar_f a1 f1 (by decide)) (by rw [hq]; exact b1) (by rw [hr]; exact ar_f a3 f1 (by decide)) (fun j hj => by rw [f1 j (by omega), h0 j hj])))
    refine y_order (n := 3) (m := 1) (by decide) (by decide) a3 a1 ?_
    rcases Nat.lt_or_ge (T - g * D) D with z | z
    · rw [cm_lt z]
      exact br_t (by decide) (hend (by omega))
    · have hn : ¬ cm_ (T - g * D) D < 0 := by
        rcases Nat.eq_or_lt_of_le z with y | y
        · rw [cm_eq y.symm]; decide
        · rw [cm_gt y]; decide
      refine br_f hn (pk_le 10 g (fun y => by omega) (fun y => y_minus (n := 3) (m := 1) (by decide) (by decide) (by decide) a3 a1 z (fun e1 b1 f1 => nm_r (nI_1 g) ?_)))
      have hg1 : (g + 1) * D = g * D + D := by rw [Nat.add_mul, Nat.one_mul]
      cases f with
      | zero => rw [Nat.add_zero] at hf; omega
      | succ f =>
        refine yq_35 hD hT hQ K f (g + 1) e1 (by omega) (by rw [show g + 1 + f = g + (f + 1) by omega]; exact hf) (ar_f a1 f1 (by decide)) (ar_f a2 f1 (by decide)) ?_ (fun j hj => by rw [f1 j (by omega), h0 j hj])
        rw [hg1, ← Nat.sub_sub]; exact b1
termination_by f => f
theorem yq_18 {N D : Nat} {e0 : Nat → Nat} (hD : 0 < D) (hD2 : D < 10 ^ 120) (h00 : ar_ e0 0 N)
    (K : ∀ e', ar_ e' 2 (N / D) → ar_ e' 3 (N % D) → post (gP, gT, gW, gJ, gV, gE, bD, bG, bP, dn_A e', bL, bT, bO, bH)) :
    ∀ (i : Nat) (e : Nat → Nat), i ≤ 128 → ar_ e 1 D → ar_ e 2 (N / 10 ^ i / D) → ar_ e 3 (N / 10 ^ i % D) → (∀ j, j < 128 → e j = e0 j) →
    wY_quotient_18 post (i + 1) (nI i + (-1)) gP gT gW gJ gV gE bD bG bP (dn_A e) bL bT bO bH
  | 0, e, hi, a1, a2, a3, h0 => br_t (by decide) (K e (by rw [Nat.pow_zero, Nat.div_one] at a2; exact a2) (by rw [Nat.pow_zero, Nat.div_one] at a3; exact a3))
  | i + 1, e, hi, a1, a2, a3, h0 => by
    rw [pk_m1]
    have hN := ar_lt h00
    have hdg : e i = N / 10 ^ i % 10 := by
      rw [h0 i (by omega)]
      have := ar_d h00 (k := i) (by omega)
      rw [Nat.mul_zero, Nat.zero_add] at this
      exact this
    have hM : N / 10 ^ i = N / 10 ^ (i + 1) * 10 + N / 10 ^ i % 10 := by
      rw [Nat.pow_succ, ← Nat.div_div_eq_div_mul]
      omega
    have hg : N / 10 ^ i % 10 < 10 := Nat.mod_lt _ (by decide)
    have hle : N / 10 ^ i ≤ N := Nat.div_le_self _ _
    generalize N / 10 ^ i % 10 = g at *
    generalize hMM : N / 10 ^ (i + 1) = M at *
    have hml : M % D < D := Nat.mod_lt _ hD
    have hT : M % D * 10 + g < 10 * D := by omega
    obtain ⟨s1, s2⟩ := qs_ (M := M) (g := g) hD rfl
    rw [← hM] at s1 s2
    refine br_f (nI_pos (by omega)) ⟨pk_in i 512 (by omega), ?_⟩
    rw [dn_rd i rfl (by omega), hdg]
    have p1 : (10 : Nat) * 10 ^ 120 < 10 ^ 128 := by decide
    refine y_append (n := 3) g (by decide) a3 hg (by omega) (fun e1 b1 f1 => ⟨11, ?_⟩)
    refine yq_35 (T := M % D * 10 + g) (Q2 := M / D) (e0 := e0) hD hT ?_ (fun e2 c1 c2 c3 c4 => ?_) 10 0 e1 (by omega) (by omega) (ar_f a1 f1 (by decide)) (ar_f a2 f1 (by decide)) (by rw [Nat.zero_mul, Nat.sub_zero]; exact b1) (fun j hj => by rw [f1 j (by omega), h0 j hj])
    · rw [s1]
      exact Nat.lt_of_le_of_lt (Nat.div_le_self _ _) (Nat.lt_of_le_of_lt hle hN)
    · exact yq_18 hD hD2 h00 K i e2 (by omega) c1 (by rw [← s1]; exact c2) (by rw [← s2]; exact c3) c4
/-- number 2 becomes number 0 divided by number 1, number 3 the rest -/
theorem y_quot {e : Nat → Nat} {N D : Nat} (h0 : ar_ e 0 N) (h1 : ar_ e 1 D) (hD : 0 < D) (hD2 : D < 10 ^ 120)
    (K : ∀ e', ar_ e' 2 (N / D) → ar_ e' 3 (N % D) → post (gP, gT, gW, gJ, gV, gE, bD, bG, bP, dn_A e', bL, bT, bO, bH)) :
    wpY_quotient post (gP, gT, gW, gJ, gV, gE, bD, bG, bP, dn_A e, bL, bT, bO, bH) := by
  unfold wpY_quotient
  refine y_zero 2 (by decide) (fun e1 b1 _ f1 => y_zero 3 (by decide) (fun e2 b2 _ f2 => ?_))
  have c0 : ar_ e2 0 N := ar_f (ar_f h0 f1 (by decide)) f2 (by decide)
  refine y_size (by decide) c0 (fun k hk ek k1 k2 => nm_r (ni_s1 _) ⟨k + 1, yq_18 hD hD2 c0 K k e2 hk (ar_f (ar_f h1 f1 (by decide)) f2 (by decide)) ?_ ?_ (fun j _ => rfl)⟩)
  · rw [Nat.div_eq_of_lt k1, Nat.zero_div]; exact ar_f b1 f2 (by decide)
  · rw [Nat.div_eq_of_lt k1, Nat.zero_mod]; exact b2
theorem rg_du {v l : Nat → Nat} {t m : Nat} (h1 : ∀ j, j < 40 → l (40 * t + j) = m / 10 ^ j % 10) (h2 : ∀ j, (j < 40 * t ∨ 40 * t + 40 ≤ j) → l j = rg_d v j) : l = rg_d (dn_u v t m) := by
  funext j
  unfold rg_d
  by_cases z : j / 40 = t
  · have e := h1 (j % 40) (Nat.mod_lt _ (by decide))
    rw [show 40 * t + j % 40 = j by omega] at e
    rw [e, z, dn_us]
  · rw [h2 j (by omega), dn_un z]; rfl
theorem yk_81 {R : RR_} {t c : Nat} {s : Int32} {l : Nat → Int32} (ht : t < 32)
    (K : pr s (gP, gT, gW, gJ, gV, gE, l, upd R.2.1 t s, dn_A (dn_u R.2.2 t c), bW, bL, bT, bO, bH)) :
    wY_keep_81 pr (nI c) (nI t) s (nI t) gP gT gW gJ gV gE l R.2.1 (dn_A R.2.2) bW bL bT bO bH := by
  have i1 : vp_in (nI t) 32 := pk_in t 32 ht
  refine ⟨i1, nm_r (e' := upd R.2.1 t s) (by rw [nI_clamp (by omega)]) ⟨i1, nm_r (dn_st t c rfl rfl (by omega)) ⟨i1, ?_⟩⟩⟩
  rw [nI_clamp (by omega), pk_us]
  exact K
theorem yk_26 {R : RR_} {e : Nat → Nat} {n t c k : Nat} {s : Int32} (hn : n < 4) (ht : t < 32) :
    ∀ (m j : Nat) (l : Nat → Nat), j + m = 40 →
    (∀ l', (∀ i, j ≤ i → i < 40 → l' (40 * t + i) = e (128 * n + i)) → (∀ i, (i < 40 * t + j ∨ 40 * t + 40 ≤ i) → l' i = l i) →
      ((nI k = 0 → wY_keep_81 pr (nI c) (nI t) 0 (nI t) gP gT gW gJ gV gE (dn_A l') R.2.1 (dn_A R.2.2) (dn_A e) bL bT bO bH) ∧ (¬ nI k = 0 → wY_keep_81 pr (nI c) (nI t) s (nI t) gP gT gW gJ gV gE (dn_A l') R.2.1 (dn_A R.2.2) (dn_A e) bL bT bO bH))) →
    wY_keep_26 pr (nI n) s (nI c) (nI t) (nI k) gP gT gW gJ gV gE (m + 1) (nI j) (dn_A l) R.2.1 (dn_A R.2.2) (dn_A e) bL bT bO bH
  | 0, j, l, hj, K => pk_le 40 j (fun _ => K l (fun i _ _ => by omega) (fun i _ => rfl)) (fun z => by omega)
  | m + 1, j, l, hj, K => by
    refine pk_le 40 j (fun z => by omega) (fun _ => ⟨pk_in (128 * n + j) 512 (by omega) (ni_8 _ _), pk_in (40 * t + j) 1280 (by omega) (ni_40 _ _), nm_r (dn_st (40 * t + j) (e (128 * n + j)) (ni_40 _ _) (dn_rd _ (ni_8 _ _) (by omega)) (by omega))
      (nm_r (nI_1 j) (yk_26 hn ht m (j + 1) _ (by omega) (fun l' e' f' => K l' (fun i g1 g2 => ?_) (fun i hi => ?_))))⟩)
    · rcases Nat.eq_or_lt_of_le g1 with q | q
      · subst q; rw [f' _ (by omega), dn_us]
      · exact e' i q g2
    · rw [f' i (by omega), dn_un (by omega)]
theorem y_keep {R : RR_} {e : Nat → Nat} {n v : Nat} (c t : Nat) {s : Int32} (hn : n < 4) (ha : ar_ e n v) (ht : t < 32) (hc : c < 1000)
    (K : pr (sa_ v s c) (gP, gT, gW, gJ, gV, gE, dn_A (rg_d (sr_ R t v s c).1), (sr_ R t v s c).2.1, dn_A (sr_ R t v s c).2.2, dn_A e, bL, bT, bO, bH)) :
    wpY_keep pr (gP, gT, gW, gJ, gV, gE, dn_A (rg_d R.1), R.2.1, dn_A R.2.2, dn_A e, bL, bT, bO, bH) (nI n) s (nI c) (nI t) := by
  unfold wpY_keep
  refine y_size hn ha (fun k hk ek k1 k2 => ?_)
  refine pk_lt 40 k (fun z => ?_) (fun z => pk_le c 20 (fun y => ⟨41, ?_⟩) (fun y => ?_))
  · have hge : 10 ^ 40 ≤ v := by
      rcases k2 with q | q
      · omega
      · exact Nat.le_trans (Nat.pow_le_pow_right (by decide) (by omega)) q
    unfold sa_ sr_ at K
    rw [if_pos (Or.inl hge), if_pos (Or.inl hge)] at K
    exact K
  · have hlt : v < 10 ^ 40 := Nat.lt_of_lt_of_le k1 (Nat.pow_le_pow_right (by decide) z)
    have hno : ¬ (10 ^ 40 ≤ v ∨ 20 < c) := by omega
    unfold sa_ sr_ st_R at K
    rw [if_neg hno, if_neg hno] at K
    refine yk_26 hn ht 40 0 _ (by omega) (fun l' e' f' => ?_)
    have el : l' = rg_d (dn_u R.1 t v) := rg_du (fun j hj => by
      rw [e' j (by omega) hj]; exact ar_d ha (by omega)) (fun j hj => f' j (by omega))
    subst el
    refine pk_eq k 0 (fun x => ?_) (fun x => ?_)
    · have m0 : v = 0 := by rw [x, Nat.pow_zero] at k1; omega
      rw [if_pos m0] at K
      exact yk_81 ht K
    · have m0 : ¬ v = 0 := by
        intro q
        rcases k2 with w | w
        · exact x w
        · have := pw_pos (k - 1)
          omega
      rw [if_neg m0] at K
      exact yk_81 ht K
  · unfold sa_ sr_ at K
    rw [if_pos (Or.inr y), if_pos (Or.inr y)] at K
    exact K
end
end
section
/-! the reference's side of the operations on the register file -/
section
variable {gP gT gW gJ gV gE : Int32} {bD bG bP bW bL bT bO bH : Nat → Int32}
variable {post : SY → Prop} {pr : Int32 → SY → Prop} {pi : Int32 → Prop}
theorem y_greater (a b : Nat) (ha : a < 2 ^ 31) (hb : b < 2 ^ 31) (K : pi (nI (max a b))) : wpY_greater pi (nI a) (nI b) := by
  refine pk_le a b (fun z => ?_) (fun z => ?_)
  · rw [Nat.max_eq_right z] at K; exact K
  · rw [Nat.max_eq_left (by omega)] at K; exact K
theorem y_less (a b : Nat) (ha : a < 2 ^ 31) (hb : b < 2 ^ 31) (K : pi (nI (min a b))) : wpY_less pi (nI a) (nI b) := by
  refine pk_le b a (fun z => ?_) (fun z => ?_)
  · rw [Nat.min_eq_right z] at K; exact K
  · rw [Nat.min_eq_left (by omega)] at K; exact K
theorem sr_dp {R : RR_} (h : wf_ R) (f t : Nat) : sr_ R t (R.1 f) (R.2.1 f) (R.2.2 f) = dp_ R f t ∧ sa_ (R.1 f) (R.2.1 f) (R.2.2 f) = R.2.1 f := by
  have h1 := h f
  have hno : ¬ (10 ^ 40 ≤ R.1 f ∨ 20 < R.2.2 f) := by omega
  have e : (if R.1 f = 0 then 0 else R.2.1 f) = R.2.1 f := by
    by_cases z : R.1 f = 0
    · rw [if_pos z, h1.2.2.1.mpr z]
    · rw [if_neg z]
  unfold sr_ sa_ st_R dp_
  rw [if_neg hno, if_neg hno, e]
  exact ⟨rfl, rfl⟩
theorem y_same {R : RR_} {e : Nat → Nat} (h : wf_ R) (f t : Nat) (hf : f < 32) (ht : t < 32) (K : ∀ e', pr (R.2.1 f) (gP, gT, gW, gJ, gV, gE, dn_A (rg_d (dp_ R f t).1), (dp_ R f t).2.1, dn_A (dp_ R f t).2.2, dn_A e', bL, bT, bO, bH)) :
    wpY_same pr (gP, gT, gW, gJ, gV, gE, dn_A (rg_d R.1), R.2.1, dn_A R.2.2, dn_A e, bL, bT, bO, bH) (nI f) (nI t) := by
  have i1 : vp_in (nI f) 32 := pk_in f 32 hf
  have ra : (nI f).toNatClampNeg = f := nI_clamp (by omega)
  have cf := (h f).2.2.2
  unfold wpY_same
  dsimp only
  rw [ra]
  refine y_fetch h 0 f 0 (by decide) hf (by decide) (fun e1 a1 f1 => ⟨i1, i1, ?_⟩)
  rw [Nat.pow_zero, Nat.mul_one] at a1
  refine y_keep (R.2.2 f) t (by decide) a1 ht (by omega) ?_
  rw [(sr_dp h f t).1, (sr_dp h f t).2]
  exact K e1
theorem y_sum {R : RR_} {e : Nat → Nat} (h : wf_ R) (a b t : Nat) {sb : Int32} (ha : a < 32) (hb : b < 32) (ht : t < 32)
    (K : ∀ e', pr (o_sum R a b sb t).1 (gP, gT, gW, gJ, gV, gE, dn_A (rg_d ((o_sum R a b sb t).2).1), ((o_sum R a b sb t).2).2.1, dn_A ((o_sum R a b sb t).2).2.2, dn_A e', bL, bT, bO, bH)) :
    wpY_sum pr (gP, gT, gW, gJ, gV, gE, dn_A (rg_d R.1), R.2.1, dn_A R.2.2, dn_A e, bL, bT, bO, bH) (nI a) (nI b) sb (nI t) := by
  have hm := mc_a h a b
  have i1 : vp_in (nI a) 32 := pk_in a 32 ha
  have i2 : vp_in (nI b) 32 := pk_in b 32 hb
  have ra : (nI a).toNatClampNeg = a := nI_clamp (by omega)
  have rb : (nI b).toNatClampNeg = b := nI_clamp (by omega)
  have la := sh_lt h (a := a) (s := mc_ R a b) (by omega)
  have lb := sh_lt h (a := b) (s := mc_ R a b) (by omega)
  have p60 : (10 : Nat) ^ 60 + 10 ^ 60 < 10 ^ 128 := by decide
  unfold wpY_sum
  dsimp only
  rw [ra, rb]
  refine ⟨i1, i2, y_greater (R.2.2 a) (R.2.2 b) (by omega) (by omega) ⟨i1, ?_⟩⟩
  rw [show max (R.2.2 a) (R.2.2 b) = mc_ R a b from rfl, show nI (mc_ R a b) - dn_A R.2.2 a = nI (mc_ R a b - R.2.2 a) from pk_sub hm.1]
  refine y_fetch h 0 a _ (by decide) ha (by omega) (fun e1 a1 f1 => ⟨i2, ?_⟩)
  dsimp only
  rw [show nI (mc_ R a b) - dn_A R.2.2 b = nI (mc_ R a b - R.2.2 b) from pk_sub hm.2.1]
  refine y_fetch h 1 b _ (by decide) hb (by omega) (fun e2 a2 f2 => ⟨i1, ?_⟩)
  have c0 : ar_ e2 0 (sh_ R a (mc_ R a b)) := ar_f a1 f2 (by decide)
  have c1 : ar_ e2 1 (sh_ R b (mc_ R a b)) := a2
  unfold o_sum at K
  refine br_c (fun z => ?_) (fun z => ?_)
  · rw [if_pos z] at K
    refine y_order (by decide) (by decide) c0 c1 ?_
    by_cases y : sh_ R a (mc_ R a b) < sh_ R b (mc_ R a b)
    · rw [if_pos y] at K
      rw [cm_lt y]
      refine br_t (by decide) (y_minus (n := 1) (m := 0) (by decide) (by decide) (by decide) c1 c0 (by omega) (fun e3 a3 f3 => ?_))
      exact y_keep (n := 1) (mc_ R a b) t (by decide) a3 ht (by omega) (K e3)
    · rw [if_neg y] at K
      have h0 : ¬ cm_ (sh_ R a (mc_ R a b)) (sh_ R b (mc_ R a b)) < 0 := by
        rcases Nat.eq_or_lt_of_le (Nat.le_of_not_lt y) with q | q
        · rw [cm_eq q.symm]; decide
        · rw [cm_gt q]; decide
      refine br_f h0 (y_minus (n := 0) (m := 1) (by decide) (by decide) (by decide) c0 c1 (by omega) (fun e3 a3 f3 => ⟨i1, ?_⟩))
      exact y_keep (n := 0) (mc_ R a b) t (by decide) a3 ht (by omega) (K e3)
  · rw [if_neg z] at K
    refine y_plus (n := 0) (m := 1) (by decide) (by decide) (by decide) c0 c1 (by omega) (fun e3 a3 f3 => ⟨i1, br_c (fun y => ?_) (fun y => ⟨i1, ?_⟩)⟩)
    · rw [if_pos y] at K
      exact y_keep (n := 0) (mc_ R a b) t (by decide) a3 ht (by omega) (K e3)
    · rw [if_neg y] at K
      exact y_keep (n := 0) (mc_ R a b) t (by decide) a3 ht (by omega) (K e3)
theorem y_cmp {R : RR_} {e : Nat → Nat} (h : wf_ R) (a b : Nat) (ha : a < 32) (hb : b < 32)
    (K : ∀ e', pr (o_cmp R a b) (gP, gT, gW, gJ, gV, gE, dn_A (rg_d R.1), R.2.1, dn_A R.2.2, dn_A e', bL, bT, bO, bH)) :
    wpY_comparing pr (gP, gT, gW, gJ, gV, gE, dn_A (rg_d R.1), R.2.1, dn_A R.2.2, dn_A e, bL, bT, bO, bH) (nI a) (nI b) := by
  have hm := mc_a h a b
  have i1 : vp_in (nI a) 32 := pk_in a 32 ha
  have i2 : vp_in (nI b) 32 := pk_in b 32 hb
  have ra : (nI a).toNatClampNeg = a := nI_clamp (by omega)
  have rb : (nI b).toNatClampNeg = b := nI_clamp (by omega)
  unfold wpY_comparing
  dsimp only
  rw [ra, rb]
  unfold o_cmp at K
  refine ⟨i1, i2, br_c (fun z => ⟨i1, i2, y_greater (R.2.2 a) (R.2.2 b) (by omega) (by omega) ⟨i1, ?_⟩⟩) (fun z => ⟨i1, i2, br_c (fun y => ?_) (fun y => ?_)⟩)⟩
  · rw [if_pos z] at K
    rw [show max (R.2.2 a) (R.2.2 b) = mc_ R a b from rfl, show nI (mc_ R a b) - dn_A R.2.2 a = nI (mc_ R a b - R.2.2 a) from pk_sub hm.1]
    refine y_fetch h 0 a _ (by decide) ha (by omega) (fun e1 a1 f1 => ⟨i2, ?_⟩)
    dsimp only
    rw [show nI (mc_ R a b) - dn_A R.2.2 b = nI (mc_ R a b - R.2.2 b) from pk_sub hm.2.1]
    refine y_fetch h 1 b _ (by decide) hb (by omega) (fun e2 a2 f2 => ?_)
    have c0 : ar_ e2 0 (sh_ R a (mc_ R a b)) := ar_f a1 f2 (by decide)
    have c1 : ar_ e2 1 (sh_ R b (mc_ R a b)) := a2
    refine y_order (by decide) (by decide) c0 c1 ⟨i1, br_c (fun y => ?_) (fun y => ?_)⟩
    · rw [if_pos y] at K; exact K e2
    · rw [if_neg y] at K; exact K e2
  · rw [if_neg z, if_pos y] at K; exact K e
  · rw [if_neg z, if_neg y] at K; exact K e
theorem y_mul {R : RR_} {e : Nat → Nat} (h : wf_ R) (sc a b t : Nat) (hsc : sc ≤ 16) (ha : a < 32) (hb : b < 32) (ht : t < 32)
    (K : ∀ e', pr (o_mul R sc a b t).1 (nI sc, gT, gW, gJ, gV, gE, dn_A (rg_d ((o_mul R sc a b t).2).1), ((o_mul R sc a b t).2).2.1, dn_A ((o_mul R sc a b t).2).2.2, dn_A e', bL, bT, bO, bH)) :
    wpY_product pr (nI sc, gT, gW, gJ, gV, gE, dn_A (rg_d R.1), R.2.1, dn_A R.2.2, dn_A e, bL, bT, bO, bH) (nI a) (nI b) (nI t) := by
  have i1 : vp_in (nI a) 32 := pk_in a 32 ha
  have i2 : vp_in (nI b) 32 := pk_in b 32 hb
  have ra : (nI a).toNatClampNeg = a := nI_clamp (by omega)
  have rb : (nI b).toNatClampNeg = b := nI_clamp (by omega)
  have ca := (h a).2.2.2
  have cb := (h b).2.2.2
  unfold wpY_product
  dsimp only
  rw [ra, rb]
  refine ⟨i1, i2, nm_r (e' := nI (R.2.2 a + R.2.2 b)) (nI_add _ _) ⟨i1, i2, y_greater (R.2.2 a) (R.2.2 b) (by omega) (by omega) (y_greater sc (max (R.2.2 a) (R.2.2 b)) (by omega) (by omega) (y_less (max sc (max (R.2.2 a) (R.2.2 b))) (R.2.2 a + R.2.2 b) (by omega) (by omega) ?_))⟩⟩
  rw [show min (max sc (max (R.2.2 a) (R.2.2 b))) (R.2.2 a + R.2.2 b) = om_s R sc a b by unfold om_s; omega]
  have hos : om_s R sc a b ≤ R.2.2 a + R.2.2 b ∧ om_s R sc a b ≤ 20 := by unfold om_s; omega
  rw [pk_sub hos.1]
  refine y_fetch h 0 a 0 (by decide) ha (by decide) (fun e1 a1 f1 => ?_)
  rw [Nat.pow_zero, Nat.mul_one] at a1
  have p84 : (10 : Nat) ^ 40 < 10 ^ 84 := by decide
  refine y_times h (n := 0) b (by decide) hb a1 (Nat.lt_trans (h a).1 p84) (fun e2 a2 f2 => y_drop (n := 0) _ (by decide) a2 (by omega) (fun e3 a3 f3 => ⟨i1, i2, ?_⟩))
  exact y_keep (n := 0) (om_s R sc a b) t (by decide) a3 ht (by omega) (K e3)
theorem y_part {R : RR_} {e : Nat → Nat} (h : wf_ R) (sc a b t : Nat) {p : Int32} (hsc : sc ≤ 16) (ha : a < 32) (hb : b < 32) (ht : t < 32)
    (K0 : p = 0 → ∀ e', pr (o_div R sc a b t).1 (nI sc, gT, gW, gJ, gV, gE, dn_A (rg_d ((o_div R sc a b t).2).1), ((o_div R sc a b t).2).2.1, dn_A ((o_div R sc a b t).2).2.2, dn_A e', bL, bT, bO, bH))
    (K1 : ¬ p = 0 → ∀ e', pr (o_rem R sc a b t).1 (nI sc, gT, gW, gJ, gV, gE, dn_A (rg_d ((o_rem R sc a b t).2).1), ((o_rem R sc a b t).2).2.1, dn_A ((o_rem R sc a b t).2).2.2, dn_A e', bL, bT, bO, bH)) :
    wpY_parted pr (nI sc, gT, gW, gJ, gV, gE, dn_A (rg_d R.1), R.2.1, dn_A R.2.2, dn_A e, bL, bT, bO, bH) (nI a) (nI b) p (nI t) := by
  have i1 : vp_in (nI a) 32 := pk_in a 32 ha
  have i2 : vp_in (nI b) 32 := pk_in b 32 hb
  have ra : (nI a).toNatClampNeg = a := nI_clamp (by omega)
  have rb : (nI b).toNatClampNeg = b := nI_clamp (by omega)
  have ca := (h a).2.2.2
  have cb := (h b).2.2.2
  unfold wpY_parted
  dsimp only
  rw [ra, rb]
  unfold o_div at K0
  unfold o_rem at K1
  refine ⟨i2, br_c (fun z => ?_) (fun z => ⟨i2, ?_⟩)⟩
  · rw [if_pos z] at K0 K1
    by_cases y : p = 0
    · exact K0 y e
    · exact K1 y e
  · rw [if_neg z] at K0 K1
    have hb0 : R.1 b ≠ 0 := fun q => z ((h b).2.2.1.mpr q)
    rw [show dn_A R.2.2 b + nI sc = nI (R.2.2 b + sc) from nI_add _ _]
    refine y_fetch h 0 a _ (by decide) ha (by omega) (fun e1 a1 f1 => ⟨i1, y_fetch h 1 b (R.2.2 a) (by decide) hb (by omega) (fun e2 a2 f2 => ?_)⟩)
    have c0 : ar_ e2 0 (od_N R sc a b) := ar_f a1 f2 (by decide)
    have c1 : ar_ e2 1 (od_D R a b) := a2
    have p60 : (10 : Nat) ^ 60 < 10 ^ 120 := by decide
    have hDl : od_D R a b < 10 ^ 60 := pw_le (h b).1 (by omega)
    refine y_quot c0 c1 (Nat.mul_pos (by omega) (pw_pos _)) (Nat.lt_trans hDl p60) (fun e3 a3 b3 => br_c (fun y => ⟨i1, i2, ?_⟩) (fun y => ⟨i2, nm_r (e' := nI (sc + R.2.2 b)) (nI_add sc _) ⟨i1, y_less (R.2.2 a) (sc + R.2.2 b) (by omega) (by omega) ⟨i1, y_greater (R.2.2 a) (sc + R.2.2 b) (by omega) (by omega) ?_⟩⟩⟩))
    · exact y_keep (n := 2) sc t (by decide) a3 ht (by omega) (K0 y e3)
    · refine y_drop (n := 3) _ (by decide) b3 (by omega) (fun e4 a4 f4 => ⟨i1, ?_⟩)
      exact y_keep (n := 3) _ t (by decide) a4 ht (by omega) (K1 y e4)
def gp_ (g : Int32) : Nat → Int32
  | 0 => 1
  | k + 1 => gp_ g k * g
theorem gp_e {g : Int32} (hg : sn_ g) : ∀ e : Nat, gp_ g e = op_g g e
  | 0 => rfl
  | 1 => by show 1 * g = g; exact Int32.one_mul g
  | e + 2 => by
    have ih := gp_e hg e
    show gp_ g e * g * g = op_g g (e + 2)
    rw [ih]
    unfold op_g
    rw [if_neg (show ¬ e + 2 = 0 by omega), show (e + 2) % 2 = e % 2 by omega]
    by_cases z : e = 0
    · subst z
      rw [if_pos rfl, if_pos rfl, Int32.one_mul]
    · rw [if_neg z]
      by_cases y : e % 2 = 0
      · rw [if_pos y]
        rcases hg with q | q | q <;> subst q <;> decide
      · rw [if_neg y]
        rcases hg with q | q | q <;> subst q <;> decide
theorem yr_18 {R : RR_} (h : wf_ R) {sc a x t : Nat} (hsc : sc ≤ 16) (ha : a < 32) (ht : t < 32) (hx : x < 10)
    (K : ∀ e', pr (o_pow R sc a x t).1 (nI sc, gT, gW, gJ, gV, gE, dn_A (rg_d ((o_pow R sc a x t).2).1), ((o_pow R sc a x t).2).2.1, dn_A ((o_pow R sc a x t).2).2.2, dn_A e', bL, bT, bO, bH)) :
    ∀ (m k : Nat) (e : Nat → Nat), k + m = x → ar_ e 0 (R.1 a ^ k) → R.1 a ^ k < 10 ^ 80 →
    wY_raised_18 pr (nI a) (nI x) (nI t) (m + 1) (gp_ (R.2.1 a) k) (nI k) (nI sc) gT gW gJ gV gE (dn_A (rg_d R.1)) R.2.1 (dn_A R.2.2) (dn_A e) bL bT bO bH
  | 0, k, e, hk, a0, hl => by
    have ek : k = x := by omega
    subst ek
    have i1 : vp_in (nI a) 32 := pk_in a 32 ha
    have ra : (nI a).toNatClampNeg = a := nI_clamp (by omega)
    have ca := (h a).2.2.2
    unfold o_pow at K
    rw [if_neg (by omega)] at K
    have hce : R.2.2 a * k ≤ 20 * 9 := Nat.mul_le_mul ca (by omega)
    refine br_t (nI_le (Nat.le_refl _) (by omega)) ?_
    rw [ra]
    refine ⟨i1, nm_r (e' := nI (R.2.2 a * k)) (pk_mul _ _) ⟨i1, y_greater sc (R.2.2 a) (by omega) (by omega) (y_less (R.2.2 a * k) (max sc (R.2.2 a)) (by omega) (by omega) ?_)⟩⟩
    rw [show min (R.2.2 a * k) (max sc (R.2.2 a)) = op_s R sc a k from rfl]
    have hos : op_s R sc a k ≤ R.2.2 a * k ∧ op_s R sc a k ≤ 20 := by unfold op_s; omega
    rw [pk_sub hos.1, gp_e (h a).2.1 k]
    refine y_drop (n := 0) _ (by decide) a0 (by omega) (fun e1 a1 f1 => ?_)
    exact y_keep (n := 0) (op_s R sc a k) t (by decide) a1 ht (by omega) (K e1)
  | m + 1, k, e, hk, a0, hl => by
    have i1 : vp_in (nI a) 32 := pk_in a 32 ha
    have ra : (nI a).toNatClampNeg = a := nI_clamp (by omega)
    have p84 : (10 : Nat) ^ 80 < 10 ^ 84 := by decide
    refine pk_le x k (fun z => by omega) (fun _ => y_times h (n := 0) a (by decide) ha a0 (Nat.lt_trans hl p84) (fun e1 a1 f1 => ⟨i1, nm_r (e' := gp_ (R.2.1 a) (k + 1)) (by rw [ra]; rfl) (y_size (n := 0) (by decide) a1 (fun n hn en n1 n2 => ?_))⟩))
    rw [← Nat.pow_succ] at a1 n1 n2
    refine pk_le n 80 (fun z => nm_r (nI_1 k) (yr_18 h hsc ha ht hx K m (k + 1) e1 (by omega) a1 (Nat.lt_of_lt_of_le n1 (Nat.pow_le_pow_right (by decide) z)))) (fun z => ?_)
    have hge : 10 ^ 80 ≤ R.1 a ^ (k + 1) := by
      rcases n2 with q | q
      · omega
      · exact Nat.le_trans (Nat.pow_le_pow_right (by decide) (by omega)) q
    unfold o_pow at K
    rw [if_pos (pe_ge (show k + 1 ≤ x by omega) hge)] at K
    exact K e1
theorem y_pow {R : RR_} {e : Nat → Nat} (h : wf_ R) (sc a x t : Nat) (hsc : sc ≤ 16) (ha : a < 32) (ht : t < 32) (hx : x < 10)
    (K : ∀ e', pr (o_pow R sc a x t).1 (nI sc, gT, gW, gJ, gV, gE, dn_A (rg_d ((o_pow R sc a x t).2).1), ((o_pow R sc a x t).2).2.1, dn_A ((o_pow R sc a x t).2).2.2, dn_A e', bL, bT, bO, bH)) :
    wpY_raised pr (nI sc, gT, gW, gJ, gV, gE, dn_A (rg_d R.1), R.2.1, dn_A R.2.2, dn_A e, bL, bT, bO, bH) (nI a) (nI x) (nI t) := by
  unfold wpY_raised
  refine y_zero 0 (by decide) (fun e1 a1 z1 f1 => nm_r (e' := dn_A (dn_u e1 0 1)) dn_up ⟨x + 1, yr_18 h hsc ha ht hx K x 0 _ (by omega) ?_ ?_⟩)
  · rw [Nat.pow_zero]
    refine ar_of (by decide) (fun k hk => ?_)
    rcases Nat.eq_zero_or_pos k with z | z
    · subst z; rw [Nat.mul_zero, dn_us]
    · rw [dn_un (by omega), z1 _ (by omega) (by omega), Nat.div_eq_of_lt (Nat.one_lt_pow (by omega) (by decide))]
  · rw [Nat.pow_zero]; decide
end
end
section
/-! the reference's root, digit by digit; its exponent -/
theorem dl_set {B : Nat} {d : Nat → Nat} {a n p y : Nat} (hp : p < n) : dl_v B (dn_u d (a + p) y) a n + d (a + p) * B ^ p = dl_v B d a n + y * B ^ p := by
  obtain ⟨r, rfl⟩ : ∃ r, n = p + 1 + r := ⟨n - p - 1, by omega⟩
  rw [dl_app, dl_app (p + 1), dl_s, dl_s, dn_us, dl_u (by omega), dl_u (by omega)]
  omega
theorem ic_ {d : Nat → Nat} {a n p : Nat} (hp : p + 1 < n) (h : 9 < d (a + p)) : dl_v 10 (dn_u (dn_u d (a + p) (d (a + p) - 10)) (a + (p + 1)) (d (a + (p + 1)) + 1)) a n = dl_v 10 d a n := by
  have h1 := dl_set (B := 10) (d := d) (a := a) (n := n) (p := p) (y := d (a + p) - 10) (by omega)
  have h2 := dl_set (B := 10) (d := dn_u d (a + p) (d (a + p) - 10)) (a := a) (n := n) (p := p + 1) (y := d (a + (p + 1)) + 1) hp
  rw [dn_un (by omega)] at h2
  rw [Nat.add_mul, Nat.pow_succ, Nat.one_mul] at h2
  obtain ⟨x, hx⟩ : ∃ x, d (a + p) = x + 10 := ⟨d (a + p) - 10, by omega⟩
  rw [hx, Nat.add_sub_cancel, Nat.add_mul] at h1
  rw [hx, Nat.add_sub_cancel] at h2 ⊢
  generalize d (a + (p + 1)) * (10 ^ p * 10) = A at *
  generalize x * 10 ^ p = C at *
  generalize 10 ^ p = P at *
  omega
section
variable {gP gT gW gJ gV gE : Int32} {bD bG bP bW bL bT bO bH : Nat → Int32}
variable {post : SY → Prop} {pr : Int32 → SY → Prop} {pi : Int32 → Prop}
theorem yi_l {w L : Nat} (hL : L = 128) (hw : w < 10 ^ (L - 1)) : ∀ (m k : Nat) (e : Nat → Nat), k + m + 1 = L → (∀ j, j ≠ k → j < L → e (128 + j) < 10) → e (128 + k) ≤ 11 → dl_v 10 e 128 L = w →
    (∀ e', (∀ j, j < L → e' (128 + j) < 10) → dl_v 10 e' 128 L = w → fr_ e e' 128 (128 + L) → post (gP, gT, gW, gJ, gV, gE, bD, bG, bP, dn_A e', bL, bT, bO, bH)) →
    wY_increase_14 post gP gT gW gJ gV gE (m + 1) (nI (128 + k)) bD bG bP (dn_A e) bL bT bO bH
  | 0, k, e, hk, h1, h2, h3, K => by
    have h4 : e (128 + k) = 0 := by
      have := dl_top (B := 10) (d := e) (a := 128) (n := L) (m := L - 1) (by decide) (by omega) (by rw [h3]; exact hw) k (by omega) (by omega)
      exact this
    refine pk_le 255 (128 + k) (fun _ => K e (fun j hj => ?_) h3 fr_r) (fun z => by omega)
    by_cases z : j = k
    · subst z; omega
    · exact h1 j z hj
  | m + 1, k, e, hk, h1, h2, h3, K => by
    have i1 : nI (128 + k) + 1 = nI (128 + (k + 1)) := nI_1 _
    refine pk_le 255 (128 + k) (fun z => by omega) (fun _ => ⟨pk_in (128 + k) 512 (by omega), pk_le (e (128 + k)) 9 (fun y => K e (fun j hj => ?_) h3 fr_r) (fun y => ⟨pk_in (128 + k) 512 (by omega), pk_in (128 + k) 512 (by omega),
      nm_r (dn_st (128 + k) (e (128 + k) - 10) rfl (by rw [dn_rd _ rfl (by omega), show (10 : Int32) = nI 10 from rfl, pk_sub (by omega)]) (by omega)) (nm_r i1 ⟨pk_in (128 + (k + 1)) 512 (by omega), pk_in (128 + (k + 1)) 512 (by omega),
      nm_r (dn_st (128 + (k + 1)) (e (128 + (k + 1)) + 1) rfl (by rw [dn_rd _ rfl (by omega), dn_un (by omega), nI_1]) (by omega)) (yi_l hL hw m (k + 1) _ (by omega) (fun j j1 j2 => ?_) ?_ ?_ (fun e' b' v' f' => K e' b' v' (fun j hj => ?_)))⟩)⟩) (dn_rd _ rfl (by omega)) rfl (by omega) (by decide)⟩)
    · by_cases z : j = k
      · subst z; omega
      · exact h1 j z hj
    · rw [dn_un (by omega)]
      by_cases z : j = k
      · subst z; rw [dn_us]; omega
      · rw [dn_un (by omega)]; exact h1 j z j2
    · rw [dn_us]
      have := h1 (k + 1) (by omega) (by omega)
      omega
    · rw [ic_ (by omega) y]; exact h3
    · rw [f' j hj, dn_un (by omega), dn_un (by omega)]
theorem yi_g {w L : Nat} {e : Nat → Nat} (hL : L = 128) (hw : w + 2 < 10 ^ (L - 1)) (h1 : ∀ j, j < L → e (128 + j) < 10) (h2 : dl_v 10 e 128 L = w)
    (K : ∀ e', (∀ j, j < L → e' (128 + j) < 10) → dl_v 10 e' 128 L = w + 2 → fr_ e e' 128 (128 + L) → post (gP, gT, gW, gJ, gV, gE, bD, bG, bP, dn_A e', bL, bT, bO, bH)) :
    wpY_increase post (gP, gT, gW, gJ, gV, gE, bD, bG, bP, dn_A e, bL, bT, bO, bH) := by
  have h3 := h1 0 (by omega)
  rw [Nat.add_zero] at h3
  refine nm_r (e' := dn_A (dn_u e 128 (e 128 + 2))) (by rw [← dn_up, ← nI_add]; rfl) ⟨127 + 1, yi_l hL hw 127 0 _ (by omega) (fun j j1 j2 => ?_) ?_ ?_ (fun e' b' v' f' => K e' b' v' (fun j hj => ?_))⟩
  · rw [dn_un (by omega)]; exact h1 j j2
  · rw [Nat.add_zero, dn_us]; omega
  · have := dl_add (B := 10) (d := e) (a := 128) (n := L) (p := 0) (x := 2) (by omega)
    rw [Nat.add_zero, Nat.pow_zero, h2] at this
    exact this
  · rw [f' j hj, dn_un (by omega)]
theorem y_inc {e : Nat → Nat} {w : Nat} (h : ar_ e 1 w) (hw : w + 2 < 10 ^ 127)
    (K : ∀ e', ar_ e' 1 (w + 2) → fr_ e e' 128 256 → post (gP, gT, gW, gJ, gV, gE, bD, bG, bP, dn_A e', bL, bT, bO, bH)) : wpY_increase post (gP, gT, gW, gJ, gV, gE, bD, bG, bP, dn_A e, bL, bT, bO, bH) :=
  yi_g (L := 128) rfl hw h.1 h.2 (fun e' b' v' f' => K e' ⟨b', v'⟩ f')
theorem rs_ {r d T : Nat} (h : 20 * r * d + d * d ≤ T) : (20 * r + (2 * d + 1) ≤ T - (20 * r * d + d * d) ↔ 20 * r * (d + 1) + (d + 1) * (d + 1) ≤ T) ∧ T - (20 * r * d + d * d) - (20 * r + (2 * d + 1)) = T - (20 * r * (d + 1) + (d + 1) * (d + 1)) := by
  have e : 20 * r * (d + 1) + (d + 1) * (d + 1) = 20 * r * d + d * d + (20 * r + (2 * d + 1)) := by
    rw [Nat.mul_add, Nat.add_mul, Nat.mul_add]; omega
  rw [e]
  omega
theorem y_25 {r T : Nat} {e0 : Nat → Nat} (hr : r < 10 ^ 100) (hT : T < 200 * r + 100)
    (K : ∀ e' d, d < 10 → 20 * r * d + d * d ≤ T → T < 20 * r * (d + 1) + (d + 1) * (d + 1) → ar_ e' 2 (r * 10 + d) → ar_ e' 3 (T - (20 * r * d + d * d)) → (∀ j, j < 128 → e' j = e0 j) → post (gP, gT, gW, gJ, gV, gE, bD, bG, bP, dn_A e', bL, bT, bO, bH)) :
    ∀ (f d : Nat) (e : Nat → Nat), d + f = 10 → 20 * r * d + d * d ≤ T → ar_ e 1 (20 * r + (2 * d + 1)) → ar_ e 2 r → ar_ e 3 (T - (20 * r * d + d * d)) → (∀ j, j < 128 → e j = e0 j) →
    wY_rootDigit_25 post (f + 1) (nI d) gP gT gW gJ gV gE bD bG bP (dn_A e) bL bT bO bH
  | f, d, e, hf, hd, a1, a2, a3, h0 => by
    obtain ⟨s1, s2⟩ := rs_ hd
    have p1 : (20 : Nat) * 10 ^ 100 + 100 < 10 ^ 127 := by decide
    have p2 : (10 : Nat) * 10 ^ 100 + 100 < 10 ^ 128 := by decide
    have hd10 : d < 10 := by
      rcases Nat.eq_or_lt_of_le (show d ≤ 10 by omega) with q | q
      · subst q; omega
      · exact q
    refine y_order (n := 3) (m := 1) (by decide) (by decide) a3 a1 ?_
    rcases Nat.lt_or_ge (T - (20 * r * d + d * d)) (20 * r + (2 * d + 1)) with z | z
    · rw [cm_lt z]
      refine br_t (by decide) (y_append (n := 2) d (by decide) a2 hd10 (by omega) (fun e1 b1 f1 => K e1 d hd10 hd (by omega) b1 (ar_f a3 f1 (by decide)) (fun j hj => by rw [f1 j (by omega), h0 j hj])))
    · have hn : ¬ cm_ (T - (20 * r * d + d * d)) (20 * r + (2 * d + 1)) < 0 := by
        rcases Nat.eq_or_lt_of_le z with y | y
        · rw [cm_eq y.symm]; decide
        · rw [cm_gt y]; decide
      refine br_f hn (pk_le 10 d (fun y => by omega) (fun y => y_minus (n := 3) (m := 1) (by decide) (by decide) (by decide) a3 a1 z (fun e1 b1 f1 => nm_r (nI_1 d) (y_inc (ar_f a1 f1 (by decide)) (by omega) (fun e2 b2 f2 => ?_)))))
      cases f with
      | zero => omega
      | succ f =>
        refine y_25 hr hT K f (d + 1) e2 (by omega) (s1.mp z) (by rw [show 20 * r + (2 * (d + 1) + 1) = 20 * r + (2 * d + 1) + 2 by omega]; exact b2) (ar_f (ar_f a2 f1 (by decide)) (n := 1) f2 (by decide)) ?_ (fun j hj => by rw [f2 j (by omega), f1 j (by omega), h0 j hj])
        rw [← s2]
        exact ar_f b1 (n := 1) f2 (by decide)
termination_by f => f
theorem y_rdig {e : Nat → Nat} {r T : Nat} (hr : r < 10 ^ 100) (hT : T < 200 * r + 100) (a2 : ar_ e 2 r) (a3 : ar_ e 3 T)
    (K : ∀ e' d, d < 10 → 20 * r * d + d * d ≤ T → T < 20 * r * (d + 1) + (d + 1) * (d + 1) → ar_ e' 2 (r * 10 + d) → ar_ e' 3 (T - (20 * r * d + d * d)) → (∀ j, j < 128 → e' j = e j) → post (gP, gT, gW, gJ, gV, gE, bD, bG, bP, dn_A e', bL, bT, bO, bH)) :
    wpY_rootDigit post (gP, gT, gW, gJ, gV, gE, bD, bG, bP, dn_A e, bL, bT, bO, bH) := by
  have p2 : (10 : Nat) * (10 ^ 100 + 10 ^ 100) + 100 < 10 ^ 128 := by decide
  unfold wpY_rootDigit
  refine y_zero 1 (by decide) (fun e1 b1 _ f1 => y_plus (n := 1) (m := 2) (by decide) (by decide) (by decide) b1 (ar_f a2 f1 (by decide)) (by omega) (fun e2 b2 f2 => y_plus (n := 1) (m := 2) (by decide) (by decide) (by decide) b2 (ar_f (ar_f a2 f1 (by decide)) f2 (by decide)) (by omega) (fun e3 b3 f3 => y_append (n := 1) 1 (by decide) b3 (by decide) (by omega) (fun e4 b4 f4 => ⟨11, ?_⟩))))
  refine y_25 (e0 := e) hr hT K 10 0 e4 rfl (by omega) ?_ (ar_f (ar_f (ar_f (ar_f a2 f1 (by decide)) f2 (by decide)) f3 (by decide)) f4 (by decide)) ?_ (fun j hj => by rw [f4 j (by omega), f3 j (by omega), f2 j (by omega), f1 j (by omega)])
  · rw [show 20 * r + (2 * 0 + 1) = (0 + r + r) * 10 + 1 by omega]; exact b4
  · rw [Nat.mul_zero, Nat.zero_mul, Nat.add_zero, Nat.sub_zero]
    exact ar_f (ar_f (ar_f (ar_f a3 f1 (by decide)) f2 (by decide)) f3 (by decide)) f4 (by decide)
/-- one digit of the root more -/
theorem rd_ {M r d g M' T : Nat} (hr : r = sq_ M) (hM : M' = M * 100 + g) (hg : g < 100) (hT : T = (M - r * r) * 100 + g) : T < 200 * r + 100 ∧ (20 * r * d + d * d ≤ T → T < 20 * r * (d + 1) + (d + 1) * (d + 1) → r * 10 + d = sq_ M' ∧ T - (20 * r * d + d * d) = M' - sq_ M' * sq_ M') := by
  have hb := sq_b M
  rw [← hr] at hb
  have e0 : (r + 1) * (r + 1) = r * r + 2 * r + 1 := by rw [Nat.add_mul, Nat.mul_add]; omega
  have e1 : ∀ d, (r * 10 + d) * (r * 10 + d) = 100 * (r * r) + (20 * r * d + d * d) := fun d => by
    rw [Nat.add_mul, Nat.mul_add, Nat.mul_add, Nat.mul_mul_mul_comm, Nat.mul_comm d (r * 10), show 20 * r * d = r * 10 * d + r * 10 * d by rw [← Nat.add_mul]; exact congrArg (· * d) (by omega)]
    omega
  have eM : M' = 100 * (r * r) + T := by
    generalize r * r = q at *
    omega
  refine ⟨by generalize r * r = q at *; omega, fun h1 h2 => ?_⟩
  have e2 : r * 10 + d = sq_ M' := by
    refine sq_u ?_ ?_
    · rw [e1 d]; omega
    · rw [show r * 10 + d + 1 = r * 10 + (d + 1) from rfl, e1 (d + 1)]; omega
  refine ⟨e2, ?_⟩
  rw [← e2, e1 d]
  omega
theorem y_56 {R : RR_} {N s t : Nat} {e0 : Nat → Nat} (hN : N < 10 ^ 80) (h00 : ar_ e0 0 N) (ht : t < 32) (hs : s < 1000)
    (K : ∀ e', pr (sa_ (sq_ N) 1 s) (gP, gT, gW, gJ, gV, gE, dn_A (rg_d (sr_ R t (sq_ N) 1 s).1), (sr_ R t (sq_ N) 1 s).2.1, dn_A (sr_ R t (sq_ N) 1 s).2.2, dn_A e', bL, bT, bO, bH)) :
    ∀ (i : Nat) (e : Nat → Nat), i ≤ 40 → ar_ e 2 (sq_ (N / 10 ^ (2 * i))) → ar_ e 3 (N / 10 ^ (2 * i) - sq_ (N / 10 ^ (2 * i)) * sq_ (N / 10 ^ (2 * i))) → (∀ j, j < 128 → e j = e0 j) →
    wY_rooted_56 pr (nI t) (nI s) (i + 1) (nI (2 * i) + (-2)) gP gT gW gJ gV gE (dn_A (rg_d R.1)) R.2.1 (dn_A R.2.2) (dn_A e) bL bT bO bH
  | 0, e, hi, a2, a3, h0 => by
    rw [Nat.mul_zero, Nat.pow_zero, Nat.div_one] at a2
    exact br_t (by decide) (y_keep (n := 2) s t (by decide) a2 ht hs (K e))
  | i + 1, e, hi, a2, a3, h0 => by
    have ix : nI (2 * (i + 1)) + (-2) = nI (2 * i) := by
      rw [show 2 * (i + 1) = 2 * i + 1 + 1 by omega, show (-2 : Int32) = (-1) + (-1) by decide, ← Int32.add_assoc, pk_m1, pk_m1]
    rw [ix]
    have hdig : ∀ k, k < 128 → e k = N / 10 ^ k % 10 := fun k hk => by
      rw [h0 k hk]
      have := ar_d h00 (k := k) hk
      rw [Nat.mul_zero, Nat.zero_add] at this
      exact this
    have hM : N / 10 ^ (2 * i) = N / 10 ^ (2 * (i + 1)) * 100 + (N / 10 ^ (2 * i + 1) % 10 * 10 + N / 10 ^ (2 * i) % 10) := by
      rw [show 2 * (i + 1) = 2 * i + 1 + 1 by omega, Nat.pow_succ 10 (2 * i + 1), ← Nat.div_div_eq_div_mul, Nat.pow_succ 10 (2 * i), ← Nat.div_div_eq_div_mul]
      omega
    have w1 := hdig (2 * i + 1) (by omega)
    have w0 := hdig (2 * i) (by omega)
    have g1 : N / 10 ^ (2 * i + 1) % 10 < 10 := Nat.mod_lt _ (by decide)
    have g0 : N / 10 ^ (2 * i) % 10 < 10 := Nat.mod_lt _ (by decide)
    have hle : N / 10 ^ (2 * i) ≤ N := Nat.div_le_self _ _
    have hle2 : N / 10 ^ (2 * (i + 1)) ≤ N := Nat.div_le_self _ _
    generalize N / 10 ^ (2 * i + 1) % 10 = x1 at *
    generalize N / 10 ^ (2 * i) % 10 = x0 at *
    generalize N / 10 ^ (2 * (i + 1)) = M at *
    have hsq := (sq_b M).1
    have hself : sq_ M ≤ M := by
      rcases Nat.eq_zero_or_pos (sq_ M) with q | q
      · omega
      · exact Nat.le_trans (Nat.le_mul_of_pos_left _ q) hsq
    obtain ⟨hT, hrd⟩ := rd_ (M := M) (d := 0) (g := x1 * 10 + x0) (M' := N / 10 ^ (2 * i)) (T := (M - sq_ M * sq_ M) * 100 + (x1 * 10 + x0)) rfl hM (by omega) rfl
    have hrd2 := fun d => (rd_ (M := M) (d := d) (g := x1 * 10 + x0) (M' := N / 10 ^ (2 * i)) (T := (M - sq_ M * sq_ M) * 100 + (x1 * 10 + x0)) rfl hM (by omega) rfl).2
    have p1 : (10 : Nat) ^ 80 * 100 + 200 < 10 ^ 100 := by decide
    have p2 : (10 : Nat) ^ 100 < 10 ^ 128 := by decide
    have hrem : M - sq_ M * sq_ M ≤ M := Nat.sub_le _ _
    generalize M - sq_ M * sq_ M = rm at *
    refine br_f (nI_pos (by omega)) ⟨pk_in (2 * i + 1) 512 (by omega) (nI_1 _), ?_⟩
    rw [dn_rd _ (nI_1 (2 * i)) (by omega), w1]
    refine y_append (n := 3) x1 (by decide) a3 g1 (by omega) (fun e1 b1 f1 => ⟨pk_in (2 * i) 512 (by omega), ?_⟩)
    dsimp only
    rw [dn_rd _ rfl (by omega), f1 (2 * i) (by omega), w0]
    refine y_append (n := 3) x0 (by decide) b1 g0 (by omega) (fun e2 b2 f2 => ?_)
    have c3 : ar_ e2 3 (rm * 100 + (x1 * 10 + x0)) := by
      rw [show rm * 100 + (x1 * 10 + x0) = (rm * 10 + x1) * 10 + x0 by omega]; exact b2
    refine y_rdig (r := sq_ M) (by omega) hT (ar_f (ar_f a2 f1 (by decide)) f2 (by decide)) c3 (fun e3 d d1 d2 d3 d4 d5 d6 => nm_e ?_)
    obtain ⟨q1, q2⟩ := hrd2 d d2 d3
    exact y_56 hN h00 ht hs K i e3 (by omega) (by rw [← q1]; exact d4) (by rw [← q2]; exact d5) (fun j hj => by rw [d6 j hj, f2 j (by omega), f1 j (by omega), h0 j hj])
theorem y_root {R : RR_} {e : Nat → Nat} (h : wf_ R) (sc a t : Nat) (hsc : sc ≤ 16) (ha : a < 32) (ht : t < 32)
    (K : ∀ e', pr (o_root R sc a t).1 (nI sc, gT, gW, gJ, gV, gE, dn_A (rg_d ((o_root R sc a t).2).1), ((o_root R sc a t).2).2.1, dn_A ((o_root R sc a t).2).2.2, dn_A e', bL, bT, bO, bH)) :
    wpY_rooted pr (nI sc, gT, gW, gJ, gV, gE, dn_A (rg_d R.1), R.2.1, dn_A R.2.2, dn_A e, bL, bT, bO, bH) (nI a) (nI t) := by
  have i1 : vp_in (nI a) 32 := pk_in a 32 ha
  have ra : (nI a).toNatClampNeg = a := nI_clamp (by omega)
  have ca := (h a).2.2.2
  unfold wpY_rooted
  dsimp only
  rw [ra]
  unfold o_root at K
  refine ⟨i1, br_c (fun z => ⟨i1, y_greater sc (R.2.2 a) (by omega) (by omega) ⟨i1, ?_⟩⟩) (fun z => ?_)⟩
  · rw [if_pos z] at K
    generalize hs : max sc (R.2.2 a) = s at *
    rw [show 2 * nI s - dn_A R.2.2 a = nI (2 * s - R.2.2 a) by rw [show (2 : Int32) = nI 2 from rfl, pk_mul]; exact pk_sub (by omega)]
    have hl : R.1 a * 10 ^ (2 * s - R.2.2 a) < 10 ^ 80 := pw_le (h a).1 (by omega)
    refine y_fetch h 0 a _ (by decide) ha (by omega) (fun e1 b1 f1 => y_zero 2 (by decide) (fun e2 b2 _ f2 => y_zero 3 (by decide) (fun e3 b3 _ f3 => ⟨41, ?_⟩)))
    have c0 : ar_ e3 0 (R.1 a * 10 ^ (2 * s - R.2.2 a)) := ar_f (ar_f b1 f2 (by decide)) f3 (by decide)
    refine y_56 (e0 := e3) hl c0 ht (by omega) (fun e' => K e') 40 e3 (by decide) ?_ ?_ (fun j _ => rfl)
    · rw [Nat.div_eq_of_lt hl]; exact ar_f b2 f3 (by decide)
    · rw [Nat.div_eq_of_lt hl]; exact b3
  · rw [if_neg z] at K; exact K e
end
end
section
/-! two register files that agree below 28; every operation keeps that, and the form of a file -/
def ag_ (R S : RR_) : Prop := ∀ r, r < 28 → R.1 r = S.1 r ∧ R.2.1 r = S.2.1 r ∧ R.2.2 r = S.2.2 r
def po_ (p q : Int32 × RR_) : Prop := p.1 = q.1 ∧ ag_ p.2 q.2
theorem ag_st {R S : RR_} (h : ag_ R S) (t m : Nat) (s : Int32) (c : Nat) : ag_ (st_R R t m s c) (st_R S t m s c) := by
  intro r hr
  obtain ⟨h1, h2, h3⟩ := h r hr
  show dn_u R.1 t m r = dn_u S.1 t m r ∧ upd R.2.1 t _ r = upd S.2.1 t _ r ∧ dn_u R.2.2 t c r = dn_u S.2.2 t c r
  by_cases z : r = t
  · subst z; rw [dn_us, dn_us, pk_us, pk_us, dn_us, dn_us]; exact ⟨rfl, rfl, rfl⟩
  · rw [dn_un z, dn_un z, pk_un z, pk_un z, dn_un z, dn_un z]; exact ⟨h1, h2, h3⟩
theorem ag_sr {R S : RR_} (h : ag_ R S) (t m : Nat) (s : Int32) (c : Nat) : ag_ (sr_ R t m s c) (sr_ S t m s c) := by
  unfold sr_
  by_cases z : 10 ^ 40 ≤ m ∨ 20 < c
  · rw [if_pos z, if_pos z]; exact h
  · rw [if_neg z, if_neg z]; exact ag_st h t m s c
theorem ag_dp {R S : RR_} (h : ag_ R S) {f : Nat} (t : Nat) (hf : f < 28) : ag_ (dp_ R f t) (dp_ S f t) := by
  intro r hr
  obtain ⟨h1, h2, h3⟩ := h r hr
  obtain ⟨g1, g2, g3⟩ := h f hf
  show dn_u R.1 t _ r = dn_u S.1 t _ r ∧ upd R.2.1 t _ r = upd S.2.1 t _ r ∧ dn_u R.2.2 t _ r = dn_u S.2.2 t _ r
  by_cases z : r = t
  · subst z; rw [dn_us, dn_us, pk_us, pk_us, dn_us, dn_us]; exact ⟨g1, g2, g3⟩
  · rw [dn_un z, dn_un z, pk_un z, pk_un z, dn_un z, dn_un z]; exact ⟨h1, h2, h3⟩
theorem po_so {R S : RR_} (h : ag_ R S) (t m : Nat) (s : Int32) (c : Nat) : po_ (so_ R t m s c) (so_ S t m s c) := ⟨rfl, ag_sr h t m s c⟩
section
variable {R S : RR_} {a b t sc e : Nat} {sb : Int32}
theorem po_sum (h : ag_ R S) (ha : a < 28) (hb : b < 28) : po_ (o_sum R a b sb t) (o_sum S a b sb t) := by
  obtain ⟨a1, a2, a3⟩ := h a ha
  obtain ⟨b1, b2, b3⟩ := h b hb
  unfold o_sum sh_ mc_
  simp only [a1, a2, a3, b1, b2, b3]
  split
  · split
    · exact po_so h _ _ _ _
    · exact po_so h _ _ _ _
  · exact po_so h _ _ _ _
theorem po_cmp (h : ag_ R S) (ha : a < 28) (hb : b < 28) : o_cmp R a b = o_cmp S a b := by
  obtain ⟨a1, a2, a3⟩ := h a ha
  obtain ⟨b1, b2, b3⟩ := h b hb
  unfold o_cmp sh_ mc_
  simp only [a1, a2, a3, b1, b2, b3]
theorem po_mul (h : ag_ R S) (ha : a < 28) (hb : b < 28) : po_ (o_mul R sc a b t) (o_mul S sc a b t) := by
  obtain ⟨a1, a2, a3⟩ := h a ha
  obtain ⟨b1, b2, b3⟩ := h b hb
  unfold o_mul om_s
  simp only [a1, a2, a3, b1, b2, b3]
  exact po_so h _ _ _ _
theorem po_div (h : ag_ R S) (ha : a < 28) (hb : b < 28) : po_ (o_div R sc a b t) (o_div S sc a b t) := by
  obtain ⟨a1, a2, a3⟩ := h a ha
  obtain ⟨b1, b2, b3⟩ := h b hb
  unfold o_div od_N od_D
  simp only [a1, a2, a3, b1, b2, b3]
  split
  · exact ⟨rfl, h⟩
  · exact po_so h _ _ _ _
theorem po_rem (h : ag_ R S) (ha : a < 28) (hb : b < 28) : po_ (o_rem R sc a b t) (o_rem S sc a b t) := by
  obtain ⟨a1, a2, a3⟩ := h a ha
  obtain ⟨b1, b2, b3⟩ := h b hb
  unfold o_rem od_N od_D
  simp only [a1, a2, a3, b1, b2, b3]
  split
  · exact ⟨rfl, h⟩
  · exact po_so h _ _ _ _
theorem po_pow (h : ag_ R S) (ha : a < 28) : po_ (o_pow R sc a e t) (o_pow S sc a e t) := by
  obtain ⟨a1, a2, a3⟩ := h a ha
  unfold o_pow op_s
  simp only [a1, a2, a3]
  split
  · exact ⟨rfl, h⟩
  · exact po_so h _ _ _ _
theorem po_root (h : ag_ R S) (ha : a < 28) : po_ (o_root R sc a t) (o_root S sc a t) := by
  obtain ⟨a1, a2, a3⟩ := h a ha
  unfold o_root
  simp only [a1, a2, a3]
  split
  · exact po_so h _ _ _ _
  · exact ⟨rfl, h⟩
theorem po_exp (h : ag_ R S) (hb : b < 28) : o_exp R b = o_exp S b := by
  obtain ⟨b1, b2, b3⟩ := h b hb
  unfold o_exp
  simp only [b1, b2, b3]
/-! the form of the file -/
theorem sh_0 {s : Nat} : sh_ R a s = 0 ↔ R.1 a = 0 := by
  unfold sh_
  constructor
  · intro z
    rcases Nat.mul_eq_zero.mp z with y | y
    · exact y
    · exact absurd y (Nat.pos_iff_ne_zero.mp (pw_pos _))
  · intro z; rw [z, Nat.zero_mul]
theorem sn_m0 {x y : Int32} (h : sn_ x) (g : sn_ y) (z : x * y = 0) : x = 0 ∨ y = 0 := by
  rcases h with e | e | e <;> subst e <;> rcases g with e | e | e <;> subst e <;> first | (left; decide) | (right; decide) | (exact absurd z (by decide))
theorem wf_so (h : wf_ R) {m c : Nat} (hs : sn_ sb) (h0 : m ≠ 0 → sb ≠ 0) : wf_ (so_ R t m sb c).2 := wf_sr h hs h0
theorem wf_sum (h : wf_ R) (hs : sn_ sb) (h0 : sb = 0 ↔ R.1 b = 0) : wf_ (o_sum R a b sb t).2 := by
  obtain ⟨a1, a2, a3, a4⟩ := h a
  unfold o_sum
  split
  · rename_i z
    split
    · refine wf_so h hs (fun _ q => ?_)
      rw [q, Int32.mul_zero] at z
      exact absurd z (by decide)
    · refine wf_so h a2 (fun _ q => ?_)
      rw [q, Int32.zero_mul] at z
      exact absurd z (by decide)
  · split
    · rename_i _ y
      refine wf_so h hs (fun m0 q => m0 ?_)
      rw [sh_0.mpr (a3.mp y), sh_0.mpr (h0.mp q)]
    · rename_i _ y
      exact wf_so h a2 (fun _ q => y q)
theorem wf_mul (h : wf_ R) : wf_ (o_mul R sc a b t).2 := by
  refine wf_so h (sn_mul (h a).2.1 (h b).2.1) (fun m0 q => m0 ?_)
  rcases sn_m0 (h a).2.1 (h b).2.1 q with z | z
  · rw [(h a).2.2.1.mp z, Nat.zero_mul, Nat.zero_div]
  · rw [(h b).2.2.1.mp z, Nat.mul_zero, Nat.zero_div]
theorem wf_div (h : wf_ R) : wf_ (o_div R sc a b t).2 := by
  unfold o_div
  split
  · exact h
  · rename_i y
    refine wf_so h (sn_mul (h a).2.1 (h b).2.1) (fun m0 q => m0 ?_)
    rcases sn_m0 (h a).2.1 (h b).2.1 q with z | z
    · unfold od_N; rw [(h a).2.2.1.mp z, Nat.zero_mul, Nat.zero_div]
    · exact absurd z y
theorem wf_rem (h : wf_ R) : wf_ (o_rem R sc a b t).2 := by
  unfold o_rem
  split
  · exact h
  · refine wf_so h (h a).2.1 (fun m0 q => m0 ?_)
    unfold od_N; rw [(h a).2.2.1.mp q, Nat.zero_mul, Nat.zero_mod, Nat.zero_div]
theorem wf_pow (h : wf_ R) : wf_ (o_pow R sc a e t).2 := by
  have g1 := (h a).2.1
  unfold o_pow
  split
  · exact h
  · unfold op_g
    split
    · exact wf_so h sn_1 (fun _ q => absurd q (by decide))
    · rename_i z
      split
      · refine wf_so h (sn_mul g1 g1) (fun m0 q => m0 ?_)
        have : R.2.1 a = 0 := by rcases sn_m0 g1 g1 q with y | y <;> exact y
        rw [(h a).2.2.1.mp this, Nat.zero_pow (by omega), Nat.zero_div]
      · refine wf_so h g1 (fun m0 q => m0 ?_)
        rw [(h a).2.2.1.mp q, Nat.zero_pow (by omega), Nat.zero_div]
theorem wf_root (h : wf_ R) : wf_ (o_root R sc a t).2 := by
  unfold o_root
  split
  · exact wf_so h sn_1 (fun _ q => absurd q (by decide))
  · exact h
end
end
section
/-! the relation between the two objects -/
def tv_ (t : Nat) : Prop := t < 8 ∨ (10 ≤ t ∧ t ≤ 22) ∨ (1000 ≤ t ∧ t ≤ 1999)
def rf_ (R S : RR_) (d tk : Nat → Nat) (sc n : Nat) (aT bL : Nat → Int32) : Prop :=
  bd_ d ∧ wf_ R ∧ wf_ S ∧ ag_ R S ∧ sc ≤ 16 ∧ n ≤ 40 ∧ (∀ i, i < n → aT i = nI (tk i) ∧ bL i = nI (tk i) ∧ tv_ (tk i))
def i_Rel (k : Nat) (u : SX) (v : SY) : Prop := match u, v with
  | (fS, fC, fA, fP, fW, fE, fN, fT, aL, aG, aC, aT, aO, aR, aA, aK, aH, aB, aW), (gP, gT, gW, gJ, gV, gE, bD, bG, bP, bW, bL, bT, bO, bH) => ∃ (R S : RR_) (d e tk : Nat → Nat) (sc n : Nat), aL = dn_A (rg_l R.1) ∧ aG = R.2.1 ∧ aC = dn_A R.2.2 ∧ aW = dn_A d ∧ bD = dn_A (rg_d S.1) ∧ bG = S.2.1 ∧ bP = dn_A S.2.2 ∧ bW = dn_A e ∧
      fS = nI sc ∧ gP = nI sc ∧ fC = nI n ∧ gT = nI n ∧ gW = fE ∧ rf_ R S d tk sc n aT bL
theorem i_up {k : Nat} {u : SX} {v : SY} (h : i_Rel k u v) : i_Rel (k + 4) u v := h
section
variable {fS fC fA fP fW fE fN fT : Int32} {aL aG aC aT aO aR aA aK aH aB aW : Nat → Int32}
variable {gP gT gW gJ gV gE : Int32} {bD bG bP bW bL bT bO bH : Nat → Int32}
theorem rl_in {k : Nat} {R S : RR_} {d e tk : Nat → Nat} {sc n : Nat} (h : rf_ R S d tk sc n aT bL) : i_Rel k (nI sc, nI n, fA, fP, fW, fE, fN, fT, dn_A (rg_l R.1), R.2.1, dn_A R.2.2, aT, aO, aR, aA, aK, aH, aB, dn_A d) (nI sc, nI n, fE, gJ, gV, gE, dn_A (rg_d S.1), S.2.1, dn_A S.2.2, dn_A e, bL, bT, bO, bH) :=
  ⟨R, S, d, e, tk, sc, n, rfl, rfl, rfl, rfl, rfl, rfl, rfl, rfl, rfl, rfl, rfl, rfl, rfl, h⟩
theorem rl_op {k : Nat} {R S : RR_} {d d' e tk : Nat → Nat} {sc n : Nat} (h : rf_ R S d tk sc n aT bL) {p q : Int32 × RR_} (po : po_ p q) (wp : wf_ p.2) (wq : wf_ q.2) (hd : bd_ d') :
    q.1 = p.1 ∧ i_Rel k (nI sc, nI n, fA, fP, fW, fE, fN, fT, dn_A (rg_l p.2.1), p.2.2.1, dn_A p.2.2.2, aT, aO, aR, aA, aK, aH, aB, dn_A d') (nI sc, nI n, fE, gJ, gV, gE, dn_A (rg_d q.2.1), q.2.2.1, dn_A q.2.2.2, dn_A e, bL, bT, bO, bH) :=
  ⟨po.1.symm, rl_in ⟨hd, wp, wq, po.2, h.2.2.2.2⟩⟩
end
theorem rl_el {k : Nat} {u : SX} {v : SY} (I : i_Rel k u v) {P : SX → SY → Prop}
    (H : ∀ (fA fP fW fE fN fT gJ gV gE : Int32) (aT aO aR aA aK aH aB bL bT bO bH : Nat → Int32) (R S : RR_) (d e tk : Nat → Nat) (sc n : Nat), rf_ R S d tk sc n aT bL → P (nI sc, nI n, fA, fP, fW, fE, fN, fT, dn_A (rg_l R.1), R.2.1, dn_A R.2.2, aT, aO, aR, aA, aK, aH, aB, dn_A d) (nI sc, nI n, fE, gJ, gV, gE, dn_A (rg_d S.1), S.2.1, dn_A S.2.2, dn_A e, bL, bT, bO, bH)) : P u v := by
  obtain ⟨fS, fC, fA, fP, fW, fE, fN, fT, aL, aG, aC, aT, aO, aR, aA, aK, aH, aB, aW⟩ := u
  obtain ⟨gP, gT, gW, gJ, gV, gE, bD, bG, bP, bW, bL, bT, bO, bH⟩ := v
  obtain ⟨R, S, d, e, tk, sc, n, rfl, rfl, rfl, rfl, rfl, rfl, rfl, rfl, rfl, rfl, rfl, rfl, rfl, h⟩ := I
  exact H _ _ _ _ _ _ _ _ _ _ _ _ _ _ _ _ _ _ _ _ R S d e tk sc n h
theorem i_vc0 : wpX_init (fun u => wpY_init (fun v => i_Rel 0 u v)) := by
  have w : wf_ ((fun _ => 0), (fun _ => 0), (fun _ => 0)) := fun r => ⟨by show 0 < 10 ^ 40; decide, sn_0, ⟨fun _ => rfl, fun _ => rfl⟩, by show 0 ≤ 20; decide⟩
  have el : (fun _ => 0 : Nat → Int32) = dn_A (rg_l (fun _ => 0)) := by
    funext j; unfold dn_A rg_l; rw [Nat.zero_div, Nat.zero_mod]; rfl
  have ed : (fun _ => 0 : Nat → Int32) = dn_A (rg_d (fun _ => 0)) := by
    funext j; unfold dn_A rg_d; rw [Nat.zero_div, Nat.zero_mod]; rfl
  exact ⟨((fun _ => 0), (fun _ => 0), (fun _ => 0)), ((fun _ => 0), (fun _ => 0), (fun _ => 0)), (fun _ => 0), (fun _ => 0), (fun _ => 0), 0, 0, el, rfl, rfl, rfl, ed, rfl, rfl, rfl, rfl, rfl, rfl, rfl, rfl, (fun j => by show 0 < 10000; decide), w, w, (fun r _ => ⟨rfl, rfl, rfl⟩), by decide, by decide, fun i hi => absurd hi (Nat.not_lt_zero i)⟩
/-! a register's number -/
theorem is_b {x : Int32} (h : x &&& (-8) = 0) : ∃ j, j < 8 ∧ x = nI j := by
  obtain ⟨j, hj, e⟩ := pk_andE x (m := 7) 3 (by decide)
  refine ⟨j, hj, ?_⟩
  rw [← e]
  have hb : ∀ i, i < 32 → x.toBitVec.getLsbD i = (x &&& 7).toBitVec.getLsbD i := by
    intro i hi
    have h1 : (x &&& (-8)).toBitVec.getLsbD i = (0 : Int32).toBitVec.getLsbD i := by rw [h]
    rw [Int32.toBitVec_and, BitVec.getLsbD_and] at h1
    rw [Int32.toBitVec_and, BitVec.getLsbD_and]
    have h2 : ∀ i, i < 32 → (0 : Int32).toBitVec.getLsbD i = false := by decide
    have h3 : ∀ i, i < 32 → (-8 : Int32).toBitVec.getLsbD i = decide (3 ≤ i) := by decide
    have h4 : ∀ i, i < 32 → (7 : Int32).toBitVec.getLsbD i = decide (i < 3) := by decide
    rw [h2 i hi, h3 i hi] at h1
    rw [h4 i hi]
    by_cases z : i < 3
    · rw [decide_eq_true z, Bool.and_true]
    · rw [decide_eq_true (show 3 ≤ i by omega), Bool.and_true] at h1
      rw [h1, Bool.false_and]
  exact Int32.toBitVec_inj.mp (BitVec.eq_of_getLsbD_eq hb)
section
variable {pi : Int32 → Prop}
theorem x_isg {j : Nat} (hj : j < 8) (K : pi 1) : wpX_is pi (nI j) := by
  have h : ∀ j, j < 8 → nI j &&& (-8) = 0 := by decide
  exact br_t (h j hj) K
theorem y_outg {j : Nat} (hj : j < 8) (K : pi 0) : wpY_out pi (nI j) :=
  br_f (nI_pos (by omega)) (br_t (nI_le (b := 7) (by omega) (by decide)) K)
end
theorem is_c (x : Int32) : (∃ j, j < 8 ∧ x = nI j) ∨ ((∀ pi : Int32 → Prop, pi 0 → wpX_is pi x) ∧ (∀ pi : Int32 → Prop, pi 1 → wpY_out pi x)) := by
  rcases pk_ix x (n := 8) (by decide) with h | h | h
  · refine Or.inr ⟨fun pi K => br_f (fun z => ?_) K, fun pi K => br_t h K⟩
    obtain ⟨j, hj, e⟩ := is_b z
    rw [e] at h
    exact nI_pos (by omega) h
  · have h1 : ¬ x < 0 := fun z => by
      have h8 : (nI 8).toInt = 8 := by decide
      rw [Int32.le_iff_toInt_le, h8] at h
      rw [Int32.lt_iff_toInt_lt, show (0 : Int32).toInt = 0 by decide] at z
      omega
    have h2 : ¬ x ≤ 7 := fun z => by
      have h8 : (nI 8).toInt = 8 := by decide
      rw [Int32.le_iff_toInt_le, h8] at h
      rw [Int32.le_iff_toInt_le, show (7 : Int32).toInt = 7 by decide] at z
      omega
    refine Or.inr ⟨fun pi K => br_f (fun z => ?_) K, fun pi K => br_f h1 (br_f h2 K)⟩
    obtain ⟨j, hj, e⟩ := is_b z
    rw [e] at h2
    exact h2 (nI_le (b := 7) (by omega) (by decide))
  · exact Or.inl h
end
section
/-! the calls on registers -/
theorem i_vc_scale {k : Nat} {u : SX} {v : SY} (I : i_Rel k u v) (hk : k + 4 ≤ 2048) (v1 : Int32) : wpX_scale (fun r u' => wpY_scale (fun r' v' => r' = r ∧ i_Rel (k + 4) u' v') v v1) u v1 := by
  refine rl_el I (P := fun u v => wpX_scale (fun r u' => wpY_scale (fun r' v' => r' = r ∧ i_Rel (k + 4) u' v') v v1) u v1) ?_
  intro fA fP fW fE fN fT gJ gV gE aT aO aR aA aK aH aB bL bT bO bH R S d e tk sc n h
  refine br_c (fun z => br_t z ⟨rfl, rl_in h⟩) (fun z => br_c (fun y => br_f z (br_t y ?_)) (fun y => br_f z (br_f y ⟨rfl, rl_in h⟩)))
  obtain ⟨j, hj, rfl⟩ := nI_of2 (M := 16) (n := 16) (by decide) z y
  exact ⟨rfl, rl_in ⟨h.1, h.2.1, h.2.2.1, h.2.2.2.1, hj, h.2.2.2.2.2⟩⟩
theorem i_vc_clear {k : Nat} {u : SX} {v : SY} (I : i_Rel k u v) (hk : k + 4 ≤ 2048) (v1 : Int32) : wpX_clear (fun r u' => wpY_clear (fun r' v' => r' = r ∧ i_Rel (k + 4) u' v') v v1) u v1 := by
  refine rl_el I (P := fun u v => wpX_clear (fun r u' => wpY_clear (fun r' v' => r' = r ∧ i_Rel (k + 4) u' v') v v1) u v1) ?_
  intro fA fP fW fE fN fT gJ gV gE aT aO aR aA aK aH aB bL bT bO bH R S d e tk sc n h
  unfold wpX_clear wpY_clear
  rcases is_c v1 with ⟨a, ha, rfl⟩ | ⟨x1, y1⟩
  · refine x_isg ha (br_f (by decide) (x_zero h.1 0 32 (by decide) (fun d1 b1 z1 f1 => x_store b1 a 0 32 0 (by omega) (by decide) (by decide) sn_0 (by decide) ?_)))
    rw [dl_z (fun k hk => z1 _ (by omega) (by omega))]
    refine y_outg ha (br_t rfl (y_zero 0 (by decide) (fun e1 a1 _ _ => y_keep (n := 0) 0 a (by decide) a1 (by omega) (by decide) ?_)))
    exact rl_op h (po_so h.2.2.2.1 a 0 0 0) (wf_so h.2.1 sn_0 (fun z => absurd rfl z)) (wf_so h.2.2.1 sn_0 (fun z => absurd rfl z)) b1
  · exact x1 _ (br_t rfl (y1 _ (br_f (by decide) ⟨rfl, rl_in h⟩)))
theorem i_vc_sign {k : Nat} {u : SX} {v : SY} (I : i_Rel k u v) (hk : k + 4 ≤ 2048) (v1 : Int32) : wpX_sign (fun r => wpY_sign (fun r' => r' = r ∧ i_Rel (k + 4) u v) v v1) u v1 := by
  refine rl_el I (P := fun u v => wpX_sign (fun r => wpY_sign (fun r' => r' = r ∧ i_Rel (k + 4) u v) v v1) u v1) ?_
  intro fA fP fW fE fN fT gJ gV gE aT aO aR aA aK aH aB bL bT bO bH R S d e tk sc n h
  unfold wpX_sign wpY_sign
  rcases is_c v1 with ⟨a, ha, rfl⟩ | ⟨x1, y1⟩
  · refine x_isg ha (br_f (by decide) ⟨pk_in a 28 (by omega), y_outg ha (br_t rfl ⟨pk_in a 32 (by omega), ?_, rl_in h⟩)⟩)
    rw [nI_clamp (by omega)]
    exact (h.2.2.2.1 a (by omega)).2.1.symm
  · exact x1 _ (br_t rfl (y1 _ (br_f (by decide) ⟨rfl, rl_in h⟩)))
theorem i_vc_scaleOf {k : Nat} {u : SX} {v : SY} (I : i_Rel k u v) (hk : k + 4 ≤ 2048) (v1 : Int32) : wpX_scaleOf (fun r => wpY_scaleOf (fun r' => r' = r ∧ i_Rel (k + 4) u v) v v1) u v1 := by
  refine rl_el I (P := fun u v => wpX_scaleOf (fun r => wpY_scaleOf (fun r' => r' = r ∧ i_Rel (k + 4) u v) v v1) u v1) ?_
  intro fA fP fW fE fN fT gJ gV gE aT aO aR aA aK aH aB bL bT bO bH R S d e tk sc n h
  unfold wpX_scaleOf wpY_scaleOf
  rcases is_c v1 with ⟨a, ha, rfl⟩ | ⟨x1, y1⟩
  · refine x_isg ha (br_f (by decide) ⟨pk_in a 28 (by omega), y_outg ha (br_t rfl ⟨pk_in a 32 (by omega), ?_, rl_in h⟩)⟩)
    rw [nI_clamp (by omega)]
    exact congrArg nI (h.2.2.2.1 a (by omega)).2.2.symm
  · exact x1 _ (br_t rfl (y1 _ (br_f (by decide) ⟨rfl, rl_in h⟩)))
theorem i_vc_place {k : Nat} {u : SX} {v : SY} (I : i_Rel k u v) (hk : k + 4 ≤ 2048) : wpX_place (fun r => wpY_place (fun r' => r' = r ∧ i_Rel (k + 4) u v) v) u := by
  refine rl_el I (P := fun u v => wpX_place (fun r => wpY_place (fun r' => r' = r ∧ i_Rel (k + 4) u v) v) u) ?_
  intro fA fP fW fE fN fT gJ gV gE aT aO aR aA aK aH aB bL bT bO bH R S d e tk sc n h
  exact ⟨rfl, rl_in h⟩
theorem wf_pt {R : RR_} (h : wf_ R) {t c : Nat} (hc : c ≤ 20) : wf_ (R.1, R.2.1, dn_u R.2.2 t c) := fun r => by
  obtain ⟨h1, h2, h3, h4⟩ := h r
  refine ⟨h1, h2, h3, ?_⟩
  show dn_u R.2.2 t c r ≤ 20
  by_cases z : r = t
  · subst z; rw [dn_us]; exact hc
  · rw [dn_un z]; exact h4
theorem ag_pt {R S : RR_} (h : ag_ R S) {t c : Nat} : ag_ (R.1, R.2.1, dn_u R.2.2 t c) (S.1, S.2.1, dn_u S.2.2 t c) := fun r hr => by
  obtain ⟨h1, h2, h3⟩ := h r hr
  refine ⟨h1, h2, ?_⟩
  show dn_u R.2.2 t c r = dn_u S.2.2 t c r
  by_cases z : r = t
  · subst z; rw [dn_us, dn_us]
  · rw [dn_un z, dn_un z]; exact h3
theorem wf_ng {R : RR_} (h : wf_ R) {t : Nat} : wf_ (R.1, upd R.2.1 t (-R.2.1 t), R.2.2) := fun r => by
  obtain ⟨h1, h2, h3, h4⟩ := h r
  refine ⟨h1, ?_, ?_, h4⟩
  · show sn_ (upd R.2.1 t _ r)
    by_cases z : r = t
    · subst z; rw [pk_us]; exact sn_neg h2
    · rw [pk_un z]; exact h2
  · show upd R.2.1 t _ r = 0 ↔ _
    by_cases z : r = t
    · subst z
      rw [pk_us, ← h3]
      rcases h2 with e | e | e <;> rw [e] <;> decide
    · rw [pk_un z]; exact h3
theorem ag_ng {R S : RR_} (h : ag_ R S) {t : Nat} (ht : t < 28) : ag_ (R.1, upd R.2.1 t (-R.2.1 t), R.2.2) (S.1, upd S.2.1 t (-S.2.1 t), S.2.2) := fun r hr => by
  obtain ⟨h1, h2, h3⟩ := h r hr
  refine ⟨h1, ?_, h3⟩
  show upd R.2.1 t _ r = upd S.2.1 t _ r
  by_cases z : r = t
  · subst z; rw [pk_us, pk_us, h2]
  · rw [pk_un z, pk_un z]; exact h2
theorem i_vc_point {k : Nat} {u : SX} {v : SY} (I : i_Rel k u v) (hk : k + 4 ≤ 2048) (v1 : Int32) (v2 : Int32) : wpX_point (fun r u' => wpY_point (fun r' v' => r' = r ∧ i_Rel (k + 4) u' v') v v1 v2) u v1 v2 := by
  refine rl_el I (P := fun u v => wpX_point (fun r u' => wpY_point (fun r' v' => r' = r ∧ i_Rel (k + 4) u' v') v v1 v2) u v1 v2) ?_
  intro fA fP fW fE fN fT gJ gV gE aT aO aR aA aK aH aB bL bT bO bH R S d e tk sc n h
  unfold wpX_point wpY_point
  rcases is_c v1 with ⟨a, ha, rfl⟩ | ⟨x1, y1⟩
  · have ra : (nI a).toNatClampNeg = a := nI_clamp (by omega)
    refine x_isg ha (br_f (by decide) (br_c (fun z => y_outg ha (br_t rfl (br_t z ⟨rfl, rl_in h⟩))) (fun z => br_c (fun y => ?_) (fun y => y_outg ha (br_t rfl (br_f z (br_f y ⟨rfl, rl_in h⟩)))))))
    obtain ⟨c, hc, rfl⟩ := nI_of2 (M := 20) (n := 20) (by decide) z y
    refine ⟨pk_in a 28 (by omega), nm_r (dn_st a c rfl (na_bb (by omega)) (by omega)) ⟨pk_in a 28 (by omega), y_outg ha (br_t rfl (br_f z (br_t y ⟨pk_in a 32 (by omega), nm_r (dn_st a c rfl rfl (by omega)) ⟨pk_in a 32 (by omega), ?_⟩⟩)))⟩⟩
    rw [ra]
    exact ⟨(h.2.2.2.1 a (by omega)).2.1.symm, rl_in (R := (R.1, R.2.1, dn_u R.2.2 a c)) (S := (S.1, S.2.1, dn_u S.2.2 a c)) ⟨h.1, wf_pt h.2.1 hc, wf_pt h.2.2.1 hc, ag_pt h.2.2.2.1, h.2.2.2.2⟩⟩
  · exact x1 _ (br_t rfl (y1 _ (br_f (by decide) ⟨rfl, rl_in h⟩)))
theorem i_vc_negate {k : Nat} {u : SX} {v : SY} (I : i_Rel k u v) (hk : k + 4 ≤ 2048) (v1 : Int32) : wpX_negate (fun r u' => wpY_negate (fun r' v' => r' = r ∧ i_Rel (k + 4) u' v') v v1) u v1 := by
  refine rl_el I (P := fun u v => wpX_negate (fun r u' => wpY_negate (fun r' v' => r' = r ∧ i_Rel (k + 4) u' v') v v1) u v1) ?_
  intro fA fP fW fE fN fT gJ gV gE aT aO aR aA aK aH aB bL bT bO bH R S d e tk sc n h
  unfold wpX_negate wpY_negate
  rcases is_c v1 with ⟨a, ha, rfl⟩ | ⟨x1, y1⟩
  · have ra : (nI a).toNatClampNeg = a := nI_clamp (by omega)
    have i1 : vp_in (nI a) 28 := pk_in a 28 (by omega)
    have i2 : vp_in (nI a) 32 := pk_in a 32 (by omega)
    refine x_isg ha (br_f (by decide) ⟨i1, i1, nm_r (e' := upd R.2.1 a (-R.2.1 a)) (by rw [ra, na_g (sn_neg (h.2.1 a).2.1)]) ⟨i1, y_outg ha (br_t rfl ⟨i2, i2, nm_r (e' := upd S.2.1 a (-S.2.1 a)) (by rw [ra]) ⟨i2, ?_⟩⟩)⟩⟩)
    rw [ra, pk_us, pk_us]
    exact ⟨by rw [(h.2.2.2.1 a (by omega)).2.1], rl_in (R := (R.1, upd R.2.1 a (-R.2.1 a), R.2.2)) (S := (S.1, upd S.2.1 a (-S.2.1 a), S.2.2)) ⟨h.1, wf_ng h.2.1, wf_ng h.2.2.1, ag_ng h.2.2.2.1 (by omega), h.2.2.2.2⟩⟩
  · exact x1 _ (br_t rfl (y1 _ (br_f (by decide) ⟨rfl, rl_in h⟩)))
theorem i_vc_copy {k : Nat} {u : SX} {v : SY} (I : i_Rel k u v) (hk : k + 4 ≤ 2048) (v1 : Int32) (v2 : Int32) : wpX_copy (fun r u' => wpY_copy (fun r' v' => r' = r ∧ i_Rel (k + 4) u' v') v v1 v2) u v1 v2 := by
  refine rl_el I (P := fun u v => wpX_copy (fun r u' => wpY_copy (fun r' v' => r' = r ∧ i_Rel (k + 4) u' v') v v1 v2) u v1 v2) ?_
  intro fA fP fW fE fN fT gJ gV gE aT aO aR aA aK aH aB bL bT bO bH R S d e tk sc n h
  unfold wpX_copy wpY_copy
  rcases is_c v1 with ⟨a, ha, rfl⟩ | ⟨x1, y1⟩
  · rcases is_c v2 with ⟨b, hb, rfl⟩ | ⟨x2, y2⟩
    · refine x_isg ha (br_f (by decide) (x_isg hb (br_f (by decide) (x_dup h.2.1 a b (by omega) (by omega) ⟨pk_in b 28 (by omega), y_outg ha (br_t rfl (y_outg hb (br_t rfl (y_same h.2.2.1 a b (by omega) (by omega) (fun e1 => ⟨?_, rl_in ⟨h.1, wf_dp h.2.1, wf_dp h.2.2.1, ag_dp h.2.2.2.1 b (by omega), h.2.2.2.2⟩⟩)))))⟩))))
      rw [nI_clamp (by omega)]
      show S.2.1 a = upd R.2.1 b (R.2.1 a) b
      rw [pk_us]
      exact (h.2.2.2.1 a (by omega)).2.1.symm
    · exact x_isg ha (br_f (by decide) (x2 _ (br_t rfl (y_outg ha (br_t rfl (y2 _ (br_f (by decide) ⟨rfl, rl_in h⟩)))))))
  · exact x1 _ (br_t rfl (y1 _ (br_f (by decide) ⟨rfl, rl_in h⟩)))
theorem i_vc_compare {k : Nat} {u : SX} {v : SY} (I : i_Rel k u v) (hk : k + 4 ≤ 2048) (v1 : Int32) (v2 : Int32) : wpX_compare (fun r u' => wpY_compare (fun r' v' => r' = r ∧ i_Rel (k + 4) u' v') v v1 v2) u v1 v2 := by
  refine rl_el I (P := fun u v => wpX_compare (fun r u' => wpY_compare (fun r' v' => r' = r ∧ i_Rel (k + 4) u' v') v v1 v2) u v1 v2) ?_
  intro fA fP fW fE fN fT gJ gV gE aT aO aR aA aK aH aB bL bT bO bH R S d e tk sc n h
  unfold wpX_compare wpY_compare
  rcases is_c v1 with ⟨a, ha, rfl⟩ | ⟨x1, y1⟩
  · rcases is_c v2 with ⟨b, hb, rfl⟩ | ⟨x2, y2⟩
    · exact x_isg ha (br_f (by decide) (x_isg hb (br_f (by decide) (x_rank h.2.1 h.1 a b (by omega) (by omega) (fun d1 b1 => y_outg ha (br_t rfl (y_outg hb (br_t rfl (y_cmp h.2.2.1 a b (by omega) (by omega) (fun e1 => ⟨(po_cmp h.2.2.2.1 (by omega) (by omega)).symm, rl_in ⟨b1, h.2⟩⟩))))))))))
    · exact x_isg ha (br_f (by decide) (x2 _ (br_t rfl (y_outg ha (br_t rfl (y2 _ (br_f (by decide) ⟨rfl, rl_in h⟩)))))))
  · exact x1 _ (br_t rfl (y1 _ (br_f (by decide) ⟨rfl, rl_in h⟩)))
theorem i_vc_root {k : Nat} {u : SX} {v : SY} (I : i_Rel k u v) (hk : k + 4 ≤ 2048) (v1 : Int32) (v2 : Int32) : wpX_root (fun r u' => wpY_root (fun r' v' => r' = r ∧ i_Rel (k + 4) u' v') v v1 v2) u v1 v2 := by
  refine rl_el I (P := fun u v => wpX_root (fun r u' => wpY_root (fun r' v' => r' = r ∧ i_Rel (k + 4) u' v') v v1 v2) u v1 v2) ?_
  intro fA fP fW fE fN fT gJ gV gE aT aO aR aA aK aH aB bL bT bO bH R S d e tk sc n h
  unfold wpX_root wpY_root
  rcases is_c v1 with ⟨a, ha, rfl⟩ | ⟨x1, y1⟩
  · rcases is_c v2 with ⟨b, hb, rfl⟩ | ⟨x2, y2⟩
    · exact x_isg ha (br_f (by decide) (x_isg hb (br_f (by decide) (x_root h.2.1 h.1 sc a b h.2.2.2.2.1 (by omega) (by omega) (fun d1 b1 => y_outg ha (br_t rfl (y_outg hb (br_t rfl (y_root h.2.2.1 sc a b h.2.2.2.2.1 (by omega) (by omega) (fun e1 => rl_op h (po_root h.2.2.2.1 (by omega)) (wf_root h.2.1) (wf_root h.2.2.1) b1)))))))))) 
    · exact x_isg ha (br_f (by decide) (x2 _ (br_t rfl (y_outg ha (br_t rfl (y2 _ (br_f (by decide) ⟨rfl, rl_in h⟩)))))))
  · exact x1 _ (br_t rfl (y1 _ (br_f (by decide) ⟨rfl, rl_in h⟩)))
end
section
/-! the calls with three arguments (printed by mk33.py) -/
theorem ng_0 {x : Int32} {n : Nat} (h : sn_ x) (g : x = 0 ↔ n = 0) : -x = 0 ↔ n = 0 := by
  rw [← g]
  rcases h with e | e | e <;> rw [e] <;> decide
theorem i_vc_add {k : Nat} {u : SX} {v : SY} (I : i_Rel k u v) (hk : k + 4 ≤ 2048) (v1 : Int32) (v2 : Int32) (v3 : Int32) : wpX_add (fun r u' => wpY_add (fun r' v' => r' = r ∧ i_Rel (k + 4) u' v') v v1 v2 v3) u v1 v2 v3 := by
  refine rl_el I (P := fun u v => wpX_add (fun r u' => wpY_add (fun r' v' => r' = r ∧ i_Rel (k + 4) u' v') v v1 v2 v3) u v1 v2 v3) ?_
  intro fA fP fW fE fN fT gJ gV gE aT aO aR aA aK aH aB bL bT bO bH R S d e tk sc n h
  unfold wpX_add wpY_add
  rcases is_c v1 with ⟨a, ha, rfl⟩ | ⟨x1, y1⟩
  · rcases is_c v2 with ⟨b, hb, rfl⟩ | ⟨x2, y2⟩
    · rcases is_c v3 with ⟨t, ht, rfl⟩ | ⟨x3, y3⟩
      · have rb : (nI b).toNatClampNeg = b := nI_clamp (by omega)
        refine x_isg ha (br_f (by decide) (x_isg hb (br_f (by decide) (x_isg ht (br_f (by decide) ?_)))))
        refine ⟨pk_in b 28 (by omega), ?_⟩
        rw [rb]
        refine x_sum h.2.1 h.1 a b t (by omega) (by omega) (by omega) (h.2.1 b).2.1 (fun d1 b1 => y_outg ha (br_t rfl (y_outg hb (br_t rfl (y_outg ht (br_t rfl ⟨pk_in b 32 (by omega), ?_⟩))))))
        rw [← (h.2.2.2.1 b (by omega)).2.1]
        refine y_sum h.2.2.1 a b t (by omega) (by omega) (by omega) (fun e1 => rl_op h (po_sum h.2.2.2.1 (by omega) (by omega)) (wf_sum h.2.1 (h.2.1 b).2.1 (h.2.1 b).2.2.1) ?_ b1)
        rw [(h.2.2.2.1 b (by omega)).2.1]
        exact (wf_sum h.2.2.1 (h.2.2.1 b).2.1 (h.2.2.1 b).2.2.1)
      · exact x_isg ha (br_f (by decide) (x_isg hb (br_f (by decide) (x3 _ (br_t rfl (y_outg ha (br_t rfl (y_outg hb (br_t rfl (y3 _ (br_f (by decide) ⟨rfl, rl_in h⟩)))))))))))
    · exact x_isg ha (br_f (by decide) (x2 _ (br_t rfl (y_outg ha (br_t rfl (y2 _ (br_f (by decide) ⟨rfl, rl_in h⟩)))))))
  · exact x1 _ (br_t rfl (y1 _ (br_f (by decide) ⟨rfl, rl_in h⟩)))
theorem i_vc_subtract {k : Nat} {u : SX} {v : SY} (I : i_Rel k u v) (hk : k + 4 ≤ 2048) (v1 : Int32) (v2 : Int32) (v3 : Int32) : wpX_subtract (fun r u' => wpY_subtract (fun r' v' => r' = r ∧ i_Rel (k + 4) u' v') v v1 v2 v3) u v1 v2 v3 := by
  refine rl_el I (P := fun u v => wpX_subtract (fun r u' => wpY_subtract (fun r' v' => r' = r ∧ i_Rel (k + 4) u' v') v v1 v2 v3) u v1 v2 v3) ?_
  intro fA fP fW fE fN fT gJ gV gE aT aO aR aA aK aH aB bL bT bO bH R S d e tk sc n h
  unfold wpX_subtract wpY_subtract
  rcases is_c v1 with ⟨a, ha, rfl⟩ | ⟨x1, y1⟩
  · rcases is_c v2 with ⟨b, hb, rfl⟩ | ⟨x2, y2⟩
    · rcases is_c v3 with ⟨t, ht, rfl⟩ | ⟨x3, y3⟩
      · have rb : (nI b).toNatClampNeg = b := nI_clamp (by omega)
        refine x_isg ha (br_f (by decide) (x_isg hb (br_f (by decide) (x_isg ht (br_f (by decide) ?_)))))
        refine ⟨pk_in b 28 (by omega), ?_⟩
        rw [rb]
        refine x_sum h.2.1 h.1 a b t (by omega) (by omega) (by omega) (sn_neg (h.2.1 b).2.1) (fun d1 b1 => y_outg ha (br_t rfl (y_outg hb (br_t rfl (y_outg ht (br_t rfl ⟨pk_in b 32 (by omega), ?_⟩))))))
        rw [← (h.2.2.2.1 b (by omega)).2.1]
        refine y_sum h.2.2.1 a b t (by omega) (by omega) (by omega) (fun e1 => rl_op h (po_sum h.2.2.2.1 (by omega) (by omega)) (wf_sum h.2.1 (sn_neg (h.2.1 b).2.1) (ng_0 (h.2.1 b).2.1 (h.2.1 b).2.2.1)) ?_ b1)
        rw [(h.2.2.2.1 b (by omega)).2.1]
        exact (wf_sum h.2.2.1 (sn_neg (h.2.2.1 b).2.1) (ng_0 (h.2.2.1 b).2.1 (h.2.2.1 b).2.2.1))
      · exact x_isg ha (br_f (by decide) (x_isg hb (br_f (by decide) (x3 _ (br_t rfl (y_outg ha (br_t rfl (y_outg hb (br_t rfl (y3 _ (br_f (by decide) ⟨rfl, rl_in h⟩)))))))))))
    · exact x_isg ha (br_f (by decide) (x2 _ (br_t rfl (y_outg ha (br_t rfl (y2 _ (br_f (by decide) ⟨rfl, rl_in h⟩)))))))
  · exact x1 _ (br_t rfl (y1 _ (br_f (by decide) ⟨rfl, rl_in h⟩)))
theorem i_vc_multiply {k : Nat} {u : SX} {v : SY} (I : i_Rel k u v) (hk : k + 4 ≤ 2048) (v1 : Int32) (v2 : Int32) (v3 : Int32) : wpX_multiply (fun r u' => wpY_multiply (fun r' v' => r' = r ∧ i_Rel (k + 4) u' v') v v1 v2 v3) u v1 v2 v3 := by
  refine rl_el I (P := fun u v => wpX_multiply (fun r u' => wpY_multiply (fun r' v' => r' = r ∧ i_Rel (k + 4) u' v') v v1 v2 v3) u v1 v2 v3) ?_
  intro fA fP fW fE fN fT gJ gV gE aT aO aR aA aK aH aB bL bT bO bH R S d e tk sc n h
  unfold wpX_multiply wpY_multiply
  rcases is_c v1 with ⟨a, ha, rfl⟩ | ⟨x1, y1⟩
  · rcases is_c v2 with ⟨b, hb, rfl⟩ | ⟨x2, y2⟩
    · rcases is_c v3 with ⟨t, ht, rfl⟩ | ⟨x3, y3⟩
      · have rb : (nI b).toNatClampNeg = b := nI_clamp (by omega)
        refine x_isg ha (br_f (by decide) (x_isg hb (br_f (by decide) (x_isg ht (br_f (by decide) ?_)))))
        exact x_mul h.2.1 h.1 sc a b t h.2.2.2.2.1 (by omega) (by omega) (by omega) (fun d1 b1 => y_outg ha (br_t rfl (y_outg hb (br_t rfl (y_outg ht (br_t rfl (y_mul h.2.2.1 sc a b t h.2.2.2.2.1 (by omega) (by omega) (by omega) (fun e1 => rl_op h (po_mul h.2.2.2.1 (by omega) (by omega)) (wf_mul h.2.1) (wf_mul h.2.2.1) b1))))))))
      · exact x_isg ha (br_f (by decide) (x_isg hb (br_f (by decide) (x3 _ (br_t rfl (y_outg ha (br_t rfl (y_outg hb (br_t rfl (y3 _ (br_f (by decide) ⟨rfl, rl_in h⟩)))))))))))
    · exact x_isg ha (br_f (by decide) (x2 _ (br_t rfl (y_outg ha (br_t rfl (y2 _ (br_f (by decide) ⟨rfl, rl_in h⟩)))))))
  · exact x1 _ (br_t rfl (y1 _ (br_f (by decide) ⟨rfl, rl_in h⟩)))
theorem i_vc_divide {k : Nat} {u : SX} {v : SY} (I : i_Rel k u v) (hk : k + 4 ≤ 2048) (v1 : Int32) (v2 : Int32) (v3 : Int32) : wpX_divide (fun r u' => wpY_divide (fun r' v' => r' = r ∧ i_Rel (k + 4) u' v') v v1 v2 v3) u v1 v2 v3 := by
  refine rl_el I (P := fun u v => wpX_divide (fun r u' => wpY_divide (fun r' v' => r' = r ∧ i_Rel (k + 4) u' v') v v1 v2 v3) u v1 v2 v3) ?_
  intro fA fP fW fE fN fT gJ gV gE aT aO aR aA aK aH aB bL bT bO bH R S d e tk sc n h
  unfold wpX_divide wpY_divide
  rcases is_c v1 with ⟨a, ha, rfl⟩ | ⟨x1, y1⟩
  · rcases is_c v2 with ⟨b, hb, rfl⟩ | ⟨x2, y2⟩
    · rcases is_c v3 with ⟨t, ht, rfl⟩ | ⟨x3, y3⟩
      · have rb : (nI b).toNatClampNeg = b := nI_clamp (by omega)
        refine x_isg ha (br_f (by decide) (x_isg hb (br_f (by decide) (x_isg ht (br_f (by decide) ?_)))))
        exact x_div h.2.1 h.1 sc a b t h.2.2.2.2.1 (by omega) (by omega) (by omega) (fun d1 b1 => y_outg ha (br_t rfl (y_outg hb (br_t rfl (y_outg ht (br_t rfl (y_part (p := 0) h.2.2.1 sc a b t h.2.2.2.2.1 (by omega) (by omega) (by omega) (fun _ e1 => rl_op h (po_div h.2.2.2.1 (by omega) (by omega)) (wf_div h.2.1) (wf_div h.2.2.1) b1) (fun z => absurd rfl z))))))))
      · exact x_isg ha (br_f (by decide) (x_isg hb (br_f (by decide) (x3 _ (br_t rfl (y_outg ha (br_t rfl (y_outg hb (br_t rfl (y3 _ (br_f (by decide) ⟨rfl, rl_in h⟩)))))))))))
    · exact x_isg ha (br_f (by decide) (x2 _ (br_t rfl (y_outg ha (br_t rfl (y2 _ (br_f (by decide) ⟨rfl, rl_in h⟩)))))))
  · exact x1 _ (br_t rfl (y1 _ (br_f (by decide) ⟨rfl, rl_in h⟩)))
theorem i_vc_remainder {k : Nat} {u : SX} {v : SY} (I : i_Rel k u v) (hk : k + 4 ≤ 2048) (v1 : Int32) (v2 : Int32) (v3 : Int32) : wpX_remainder (fun r u' => wpY_remainder (fun r' v' => r' = r ∧ i_Rel (k + 4) u' v') v v1 v2 v3) u v1 v2 v3 := by
  refine rl_el I (P := fun u v => wpX_remainder (fun r u' => wpY_remainder (fun r' v' => r' = r ∧ i_Rel (k + 4) u' v') v v1 v2 v3) u v1 v2 v3) ?_
  intro fA fP fW fE fN fT gJ gV gE aT aO aR aA aK aH aB bL bT bO bH R S d e tk sc n h
  unfold wpX_remainder wpY_remainder
  rcases is_c v1 with ⟨a, ha, rfl⟩ | ⟨x1, y1⟩
  · rcases is_c v2 with ⟨b, hb, rfl⟩ | ⟨x2, y2⟩
    · rcases is_c v3 with ⟨t, ht, rfl⟩ | ⟨x3, y3⟩
      · have rb : (nI b).toNatClampNeg = b := nI_clamp (by omega)
        refine x_isg ha (br_f (by decide) (x_isg hb (br_f (by decide) (x_isg ht (br_f (by decide) ?_)))))
        exact x_rem h.2.1 h.1 sc a b t h.2.2.2.2.1 (by omega) (by omega) (by omega) (fun d1 b1 => y_outg ha (br_t rfl (y_outg hb (br_t rfl (y_outg ht (br_t rfl (y_part (p := 1) h.2.2.1 sc a b t h.2.2.2.2.1 (by omega) (by omega) (by omega) (fun z => absurd z (by decide)) (fun _ e1 => rl_op h (po_rem h.2.2.2.1 (by omega) (by omega)) (wf_rem h.2.1) (wf_rem h.2.2.1) b1))))))))
      · exact x_isg ha (br_f (by decide) (x_isg hb (br_f (by decide) (x3 _ (br_t rfl (y_outg ha (br_t rfl (y_outg hb (br_t rfl (y3 _ (br_f (by decide) ⟨rfl, rl_in h⟩)))))))))))
    · exact x_isg ha (br_f (by decide) (x2 _ (br_t rfl (y_outg ha (br_t rfl (y2 _ (br_f (by decide) ⟨rfl, rl_in h⟩)))))))
  · exact x1 _ (br_t rfl (y1 _ (br_f (by decide) ⟨rfl, rl_in h⟩)))
theorem i_vc_power {k : Nat} {u : SX} {v : SY} (I : i_Rel k u v) (hk : k + 4 ≤ 2048) (v1 : Int32) (v2 : Int32) (v3 : Int32) : wpX_power (fun r u' => wpY_power (fun r' v' => r' = r ∧ i_Rel (k + 4) u' v') v v1 v2 v3) u v1 v2 v3 := by
  refine rl_el I (P := fun u v => wpX_power (fun r u' => wpY_power (fun r' v' => r' = r ∧ i_Rel (k + 4) u' v') v v1 v2 v3) u v1 v2 v3) ?_
  intro fA fP fW fE fN fT gJ gV gE aT aO aR aA aK aH aB bL bT bO bH R S d e tk sc n h
  unfold wpX_power wpY_power
  rcases is_c v1 with ⟨a, ha, rfl⟩ | ⟨x1, y1⟩
  · rcases is_c v3 with ⟨t, ht, rfl⟩ | ⟨x3, y3⟩
    · refine x_isg ha (br_f (by decide) (x_isg ht (br_f (by decide) (br_c (fun z => y_outg ha (br_t rfl (y_outg ht (br_t rfl (br_t z ⟨rfl, rl_in h⟩))))) (fun z => br_c (fun y => ?_) (fun y => y_outg ha (br_t rfl (y_outg ht (br_t rfl (br_f z (br_f y ⟨rfl, rl_in h⟩)))))))))))
      obtain ⟨x, hx, rfl⟩ := nI_of2 (M := 9) (n := 9) (by decide) z y
      exact x_pow h.2.1 h.1 sc a x t h.2.2.2.2.1 (by omega) (by omega) (by omega) (fun d1 b1 => y_outg ha (br_t rfl (y_outg ht (br_t rfl (br_f z (br_t y (y_pow h.2.2.1 sc a x t h.2.2.2.2.1 (by omega) (by omega) (by omega) (fun e1 => rl_op h (po_pow h.2.2.2.1 (by omega)) (wf_pow h.2.1) (wf_pow h.2.2.1) b1))))))))
    · exact x_isg ha (br_f (by decide) (x3 _ (br_t rfl (y_outg ha (br_t rfl (y3 _ (br_f (by decide) ⟨rfl, rl_in h⟩)))))))
  · exact x1 _ (br_t rfl (y1 _ (br_f (by decide) ⟨rfl, rl_in h⟩)))
end
section
/-! single digits, lengths, digits put behind, tokens -/
theorem dg_ (v p : Nat) : v / 10000 ^ (p / 4) % 10000 / 10 ^ (p % 4) % 10 = v / 10 ^ p % 10 := by
  rw [← p4_ p, ← Nat.div_div_eq_div_mul]
  generalize v / 10000 ^ (p / 4) = w
  have : p % 4 = 0 ∨ p % 4 = 1 ∨ p % 4 = 2 ∨ p % 4 = 3 := by omega
  rcases this with e | e | e | e <;> rw [e]
  · rw [Nat.pow_zero, Nat.div_one, Nat.div_one]; omega
  · rw [Nat.pow_one]; omega
  · rw [show (10 : Nat) ^ 2 = 100 by decide]; omega
  · rw [show (10 : Nat) ^ 3 = 1000 by decide]; omega
theorem p4_lt (k : Nat) (hk : k < 4) : 10 ^ k ≤ 1000 := by
  have := Nat.pow_le_pow_right (n := 10) (by decide) (show k ≤ 3 by omega)
  omega
theorem i_vc_digit {k : Nat} {u : SX} {v : SY} (I : i_Rel k u v) (hk : k + 4 ≤ 2048) (v1 : Int32) (v2 : Int32) : wpX_digit (fun r => wpY_digit (fun r' => r' = r ∧ i_Rel (k + 4) u v) v v1 v2) u v1 v2 := by
  refine rl_el I (P := fun u v => wpX_digit (fun r => wpY_digit (fun r' => r' = r ∧ i_Rel (k + 4) u v) v v1 v2) u v1 v2) ?_
  intro fA fP fW fE fN fT gJ gV gE aT aO aR aA aK aH aB bL bT bO bH R S d e tk sc n h
  unfold wpX_digit wpY_digit
  rcases is_c v1 with ⟨a, ha, rfl⟩ | ⟨x1, y1⟩
  · refine x_isg ha (br_f (by decide) (br_c (fun z => y_outg ha (br_t rfl (br_t z ⟨rfl, rl_in h⟩))) (fun z => br_c (fun y => ?_) (fun y => y_outg ha (br_t rfl (br_f z (br_f y ⟨rfl, rl_in h⟩)))))))
    obtain ⟨p, hp, rfl⟩ := nI_of2 (M := 39) (n := 39) (by decide) z y
    have ix : nI a * 10 + nI p >>> ((2 : Int32) &&& 31) = nI (a * 10 + p / 4) := by
      rw [show nI p >>> ((2 : Int32) &&& 31) = nI (p / 4) from pk_shrN (by omega) _ 2 (by decide)]; exact ni_ma a 10 _
    rw [ix]
    refine ⟨pk_in (a * 10 + p / 4) 280 (by omega), ?_⟩
    rw [show nI p &&& 3 = nI (p % 4) from pk_andN (by omega) 2 (by decide)]
    have hp4 := pw_pos (p % 4)
    have hp5 := p4_lt (p % 4) (by omega)
    refine x_ten (p % 4) (Nat.mod_lt _ (by decide)) ⟨nI_ne0 hp4 (by omega), by decide, ?_⟩
    refine y_outg ha (br_t rfl (br_f z (br_t y ⟨pk_in (40 * a + p) 1280 (by omega) (ni_40 _ _), ?_, rl_in h⟩)))
    have hl : rg_l R.1 (a * 10 + p / 4) < 10000 := rg_lb
    have hl2 : rg_l R.1 (a * 10 + p / 4) / 10 ^ (p % 4) ≤ rg_l R.1 (a * 10 + p / 4) := Nat.div_le_self _ _
    rw [dn_rd _ (ni_40 _ _) (by omega), dn_rd _ rfl (by omega), pk_div (by omega) hp4 (by omega), show (10 : Int32) = nI 10 from rfl, pk_rem (by omega) (by decide) (by decide)]
    refine congrArg nI ?_
    unfold rg_l rg_d
    rw [show (a * 10 + p / 4) / 10 = a by omega, show (a * 10 + p / 4) % 10 = p / 4 by omega, show (40 * a + p) / 40 = a by omega, show (40 * a + p) % 40 = p by omega, dg_, (h.2.2.2.1 a (by omega)).1]
  · exact x1 _ (br_t rfl (y1 _ (br_f (by decide) ⟨rfl, rl_in h⟩)))
section
variable {fS fC fA fP fW fE fN fT : Int32} {aL aG aC aT aO aR aA aK aH aB aW : Nat → Int32}
variable {pi : Int32 → Prop}
theorem xg_13 {R : RR_} {d : Nat → Nat} {a : Nat} (ha : a < 8)
    (K : ∀ m, R.1 a < 10 ^ m → (m = 0 ∨ 10 ^ (m - 1) ≤ R.1 a) → pi (nI m)) : ∀ m : Nat, m ≤ 40 → R.1 a < 10 ^ m →
    wX_length_13 pi (nI a) fS fC fA fP fW fE fN fT (dn_A (rg_l R.1)) R.2.1 (dn_A R.2.2) aT aO aR aA aK aH aB (dn_A d) (m + 1) (nI m)
  | 0, hm, hl => pk_le 0 0 (fun _ => K 0 hl (Or.inl rfl)) (fun z => by omega)
  | p + 1, hm, hl => by
    have ix : nI a * 10 + (nI (p + 1) - 1) >>> ((2 : Int32) &&& 31) = nI (a * 10 + p / 4) := by
      rw [nI_pred, show nI p >>> ((2 : Int32) &&& 31) = nI (p / 4) from pk_shrN (by omega) _ 2 (by decide)]; exact ni_ma a 10 _
    refine pk_le (p + 1) 0 (fun z => by omega) (fun _ => ?_)
    rw [ix, nI_pred]
    refine ⟨pk_in (a * 10 + p / 4) 280 (by omega), ?_⟩
    rw [show nI p &&& 3 = nI (p % 4) from pk_andN (by omega) 2 (by decide)]
    have hp4 := pw_pos (p % 4)
    have hp5 := p4_lt (p % 4) (by omega)
    have hl2 : rg_l R.1 (a * 10 + p / 4) < 10000 := rg_lb
    have hv : rg_l R.1 (a * 10 + p / 4) / 10 ^ (p % 4) = R.1 a / 10 ^ p := by
      unfold rg_l
      rw [show (a * 10 + p / 4) / 10 = a by omega, show (a * 10 + p / 4) % 10 = p / 4 by omega, Nat.mod_eq_of_lt, Nat.div_div_eq_div_mul, p4_]
      refine Nat.div_lt_of_lt_mul (Nat.lt_of_lt_of_le hl ?_)
      rw [← Nat.pow_succ, show (10000 : Nat) = 10 ^ 4 by decide, ← Nat.pow_mul]
      exact Nat.pow_le_pow_right (by decide) (by omega)
    have hle : rg_l R.1 (a * 10 + p / 4) / 10 ^ (p % 4) ≤ rg_l R.1 (a * 10 + p / 4) := Nat.div_le_self _ _
    refine x_ten (p % 4) (Nat.mod_lt _ (by decide)) ⟨nI_ne0 hp4 (by omega), ?_⟩
    rw [dn_rd _ rfl (by omega), pk_div (by omega) hp4 (by omega), hv]
    refine pk_eq (R.1 a / 10 ^ p) 0 (fun z => nm_r (pk_m1 p) (xg_13 ha K p (by omega) ?_)) (fun z => K (p + 1) hl (Or.inr ?_)) rfl rfl (by omega) (by decide)
    · exact (Nat.div_eq_zero_iff_lt (pw_pos p)).mp z
    · rw [Nat.add_sub_cancel]
      rcases Nat.lt_or_ge (R.1 a) (10 ^ p) with y | y
      · exact absurd (Nat.div_eq_of_lt y) z
      · exact y
end
theorem i_vc_length {k : Nat} {u : SX} {v : SY} (I : i_Rel k u v) (hk : k + 4 ≤ 2048) (v1 : Int32) : wpX_length (fun r => wpY_length (fun r' v' => r' = r ∧ i_Rel (k + 4) u v') v v1) u v1 := by
  refine rl_el I (P := fun u v => wpX_length (fun r => wpY_length (fun r' v' => r' = r ∧ i_Rel (k + 4) u v') v v1) u v1) ?_
  intro fA fP fW fE fN fT gJ gV gE aT aO aR aA aK aH aB bL bT bO bH R S d e tk sc n h
  unfold wpX_length wpY_length
  rcases is_c v1 with ⟨a, ha, rfl⟩ | ⟨x1, y1⟩
  · refine x_isg ha (br_f (by decide) ⟨41, ?_⟩)
    refine xg_13 ha (fun m m1 m2 => ?_) 40 (by decide) (h.2.1 a).1
    refine y_outg ha (br_t rfl (y_fetch h.2.2.1 0 a 0 (by decide) (by omega) (by decide) (fun e1 a1 f1 => y_size (n := 0) (by decide) a1 (fun j hj ej j1 j2 => ⟨congrArg nI ?_, rl_in h⟩))))
    rw [Nat.pow_zero, Nat.mul_one, ← (h.2.2.2.1 a (by omega)).1] at j1 j2
    exact Nat.le_antisymm (sz_eq j1 j2 m1) (sz_eq m1 m2 j1)
  · exact x1 _ (br_t rfl (y1 _ (br_f (by decide) ⟨rfl, rl_in h⟩)))
/-! tokens -/
theorem na_t {v : Nat} (h : v < 2000) : vp_nar .short (nI v).toInt16.toInt32 = nI v := na_ss (by omega)
theorem pt_c (x : Int32) : (∃ t, tv_ t ∧ x = nI t ∧ t < 2000) ∨ (¬ ∃ t, tv_ t ∧ x = nI t) := by
  by_cases h : ∃ t, tv_ t ∧ x = nI t
  · obtain ⟨t, h1, h2⟩ := h
    exact Or.inl ⟨t, h1, h2, by unfold tv_ at h1; omega⟩
  · exact Or.inr h
section
variable {fS fC fA fP fW fE fN fT : Int32} {aL aG aC aT aO aR aA aK aH aB aW : Nat → Int32}
variable {gP gT gW gJ gV gE : Int32} {bD bG bP bW bL bT bO bH : Nat → Int32}
theorem x_put1 {pr : Int32 → SX → Prop} {t : Nat} (ht : tv_ t) (K : wX_put_33 pr (nI t) fS fC fA fP fW fE fN fT aL aG aC aT aO aR aA aK aH aB aW) : wpX_put pr (fS, fC, fA, fP, fW, fE, fN, fT, aL, aG, aC, aT, aO, aR, aA, aK, aH, aB, aW) (nI t) := by
  by_cases z : t < 8
  · exact br_t ((by decide : ∀ j, j < 8 → nI j &&& (-8) = 0) t z) K
  · have h8 : ¬ nI t &&& (-8) = 0 := fun y => by
      obtain ⟨j, hj, e⟩ := is_b y
      rw [nI_eq (by unfold tv_ at ht; omega) (by omega)] at e
      omega
    refine br_f h8 (pk_lt t 10 (fun y => by unfold tv_ at ht; omega) (fun y => pk_le t 22 (fun _ => K) (fun w => pk_lt t 1000 (fun q => by unfold tv_ at ht; omega) (fun q => pk_lt 1999 t (fun o => by unfold tv_ at ht; omega) (fun o => K) rfl rfl (by decide) (by unfold tv_ at ht; omega)) rfl rfl (by unfold tv_ at ht; omega)) rfl rfl (by unfold tv_ at ht; omega)) rfl rfl (by unfold tv_ at ht; omega))
theorem y_put1 {pr : Int32 → SY → Prop} {t : Nat} (ht : tv_ t) (K : wY_put_36 pr (nI t) gP gT gW gJ gV gE bD bG bP bW bL bT bO bH) : wpY_put pr (gP, gT, gW, gJ, gV, gE, bD, bG, bP, bW, bL, bT, bO, bH) (nI t) := by
  have hb : t < 2 ^ 31 := by unfold tv_ at ht; omega
  refine br_f (nI_pos hb) (pk_lt t 8 (fun _ => K) (fun z => pk_le t 9 (fun y => by unfold tv_ at ht; omega) (fun y => pk_lt t 23 (fun _ => K) (fun w => pk_le t 999 (fun q => by unfold tv_ at ht; omega) (fun q => pk_le 2000 t (fun o => by unfold tv_ at ht; omega) (fun o => K) rfl rfl (by decide) hb) rfl rfl hb) rfl rfl hb) rfl rfl hb) rfl rfl hb)
theorem x_put0 {pr : Int32 → SX → Prop} {x : Int32} (hx : ¬ ∃ t, tv_ t ∧ x = nI t) (K : wX_put_37 pr x fS fC fA fP fW fE fN fT aL aG aC aT aO aR aA aK aH aB aW) : wpX_put pr (fS, fC, fA, fP, fW, fE, fN, fT, aL, aG, aC, aT, aO, aR, aA, aK, aH, aB, aW) x := by
  have g : wX_put_19 pr x fS fC fA fP fW fE fN fT aL aG aC aT aO aR aA aK aH aB aW := by
    refine br_c (fun _ => K) (fun z => br_c (fun _ => K) (fun y => ?_))
    obtain ⟨j, hj, rfl⟩ := nI_of2 (x := x) (M := 1999) (n := 1999) (by decide) (fun w => z (Int32.lt_trans w (by decide))) (Int32.not_lt.mp y)
    have h1 : 1000 ≤ j := by
      rcases Nat.lt_or_ge j 1000 with q | q
      · exact absurd (nI_lt (b := 1000) q (by decide)) z
      · exact q
    exact absurd ⟨j, Or.inr (Or.inr ⟨h1, hj⟩), rfl⟩ hx
  refine br_f (fun z => ?_) (br_c (fun _ => g) (fun z => br_c (fun y => ?_) (fun _ => g)))
  · obtain ⟨j, hj, e⟩ := is_b z
    exact hx ⟨j, Or.inl hj, e⟩
  · obtain ⟨j, hj, rfl⟩ := nI_of2 (x := x) (M := 22) (n := 22) (by decide) (fun w => z (Int32.lt_trans w (by decide))) y
    have h1 : 10 ≤ j := by
      rcases Nat.lt_or_ge j 10 with q | q
      · exact absurd (nI_lt (b := 10) q (by decide)) z
      · exact q
    exact absurd ⟨j, Or.inr (Or.inl ⟨h1, hj⟩), rfl⟩ hx
theorem y_put0 {pr : Int32 → SY → Prop} {x : Int32} (hx : ¬ ∃ t, tv_ t ∧ x = nI t) (K : wY_put_40 pr x gP gT gW gJ gV gE bD bG bP bW bL bT bO bH) : wpY_put pr (gP, gT, gW, gJ, gV, gE, bD, bG, bP, bW, bL, bT, bO, bH) x := by
  have g : wY_put_22 pr x gP gT gW gJ gV gE bD bG bP bW bL bT bO bH := by
    refine br_c (fun _ => K) (fun z => br_c (fun _ => K) (fun y => ?_))
    obtain ⟨j, hj, rfl⟩ := nI_of (x := x) (fun w => z (Int32.le_of_lt (Int32.lt_trans w (by decide))))
    have h1 : 1000 ≤ j := by
      rcases Nat.lt_or_ge j 1000 with q | q
      · exact absurd (nI_le (b := 999) (by omega) (by decide)) z
      · exact q
    have h2 : j ≤ 1999 := by
      rcases Nat.lt_or_ge 1999 j with q | q
      · exact absurd (nI_le (a := 2000) (by omega) hj) y
      · exact q
    exact absurd ⟨j, Or.inr (Or.inr ⟨h1, h2⟩), rfl⟩ hx
  have g10 : wY_put_10 pr x gP gT gW gJ gV gE bD bG bP bW bL bT bO bH := by
    refine br_c (fun _ => g) (fun z => br_c (fun y => ?_) (fun _ => g))
    obtain ⟨j, hj, rfl⟩ := nI_of (x := x) (fun w => z (Int32.le_of_lt (Int32.lt_trans w (by decide))))
    have h1 : 10 ≤ j := by
      rcases Nat.lt_or_ge j 10 with q | q
      · exact absurd (nI_le (b := 9) (by omega) (by decide)) z
      · exact q
    have h2 : j ≤ 22 := by
      rcases Nat.lt_or_ge 22 j with q | q
      · exact absurd y (nI_nlt (b := 23) (by omega) hj)
      · exact q
    exact absurd ⟨j, Or.inr (Or.inl ⟨h1, h2⟩), rfl⟩ hx
  refine br_c (fun _ => g10) (fun z => br_c (fun y => ?_) (fun _ => g10))
  obtain ⟨j, hj, rfl⟩ := nI_of (x := x) z
  have h2 : j < 8 := by
    rcases Nat.lt_or_ge j 8 with q | q
    · exact q
    · exact absurd y (nI_nlt (b := 8) q hj)
  exact absurd ⟨j, Or.inl h2, rfl⟩ hx
end
theorem i_vc_put {k : Nat} {u : SX} {v : SY} (I : i_Rel k u v) (hk : k + 4 ≤ 2048) (v1 : Int32) : wpX_put (fun r u' => wpY_put (fun r' v' => r' = r ∧ i_Rel (k + 4) u' v') v v1) u v1 := by
  refine rl_el I (P := fun u v => wpX_put (fun r u' => wpY_put (fun r' v' => r' = r ∧ i_Rel (k + 4) u' v') v v1) u v1) ?_
  intro fA fP fW fE fN fT gJ gV gE aT aO aR aA aK aH aB bL bT bO bH R S d e tk sc n h
  have hn := h.2.2.2.2.2.1
  rcases pt_c v1 with ⟨t, ht, rfl, ht2⟩ | hx
  · refine x_put1 ht (br_f (by decide) (pk_eq n 40 (fun z => y_put1 ht (br_f (by decide) (br_t (congrArg nI z) ⟨rfl, rl_in h⟩))) (fun z => nm_r (nI_1 n) ⟨pk_in n 41 (by omega), nm_r (e' := upd aT n (nI t)) (by rw [nI_clamp (by omega), na_t ht2]) (y_put1 ht (br_f (by decide) (br_f ?_ ⟨pk_in n 40 (by omega), nm_r (e' := upd bL n (nI t)) (by rw [nI_clamp (by omega)]) (nm_r (nI_1 n) ⟨rfl, rl_in (tk := dn_u tk n t) ⟨h.1, h.2.1, h.2.2.1, h.2.2.2.1, h.2.2.2.2.1, by omega, fun i hi => ?_⟩⟩)⟩)))⟩)))
    · intro q
      exact z ((nI_eq (b := 40) (by omega) (by decide)).mp q)
    · by_cases y : i = n
      · subst y; rw [pk_us, pk_us, dn_us]; exact ⟨rfl, rfl, ht⟩
      · rw [pk_un y, pk_un y, dn_un y]; exact h.2.2.2.2.2.2 i (by omega)
  · exact x_put0 hx (br_t rfl (y_put0 hx (br_t rfl ⟨rfl, rl_in h⟩)))
end
section
/-! digits put behind a number -/
def o_dig (R : RR_) (a w c : Nat) : Int32 × RR_ := so_ R a (R.1 a * 10 ^ c + w) (if 0 ≤ R.2.1 a then 1 else -1) (R.2.2 a)
theorem po_dig {R S : RR_} {a w c : Nat} (h : ag_ R S) (ha : a < 28) : po_ (o_dig R a w c) (o_dig S a w c) := by
  obtain ⟨a1, a2, a3⟩ := h a ha
  unfold o_dig
  simp only [a1, a2, a3]
  exact po_so h _ _ _ _
theorem wf_dig {R : RR_} {a w c : Nat} (h : wf_ R) : wf_ (o_dig R a w c).2 := by
  unfold o_dig
  split
  · exact wf_so h sn_1 (fun _ q => absurd q (by decide))
  · exact wf_so h sn_m (fun _ q => absurd q (by decide))
theorem tp_9 {j : Nat} (h : j ≤ 9) : 10 ^ j ≤ 1000000000 := by
  have := Nat.pow_le_pow_right (n := 10) (by decide) h
  omega
section
variable {fS fC fA fP fW fE fN fT : Int32} {aL aG aC aT aO aR aA aK aH aB aW : Nat → Int32}
variable {pr : Int32 → SX → Prop}
theorem xg_30 {a w c : Nat} (hc : c ≤ 9) (K : ∀ f, wX_digits_30 pr (nI a) (nI w) (nI c) fS fC fA fP fW fE fN fT aL aG aC aT aO aR aA aK aH aB aW (f + 1) (nI (10 ^ c)) (nI c)) : ∀ m j : Nat, j + m = c →
    wX_digits_30 pr (nI a) (nI w) (nI c) fS fC fA fP fW fE fN fT aL aG aC aT aO aR aA aK aH aB aW (m + 1) (nI (10 ^ j)) (nI j)
  | 0, j, hj => by rw [show j = c by omega]; exact K 0
  | m + 1, j, hj => pk_le c j (fun z => by omega) (fun _ => nm_r (e' := nI (10 ^ (j + 1))) (by rw [Nat.pow_succ]; exact pk_mul _ 10) (nm_r (nI_1 j) (xg_30 hc K m (j + 1) (by omega))))
theorem x_dig {R : RR_} {d : Nat → Nat} (h : wf_ R) (hB : bd_ d) (a w c : Nat) (ha : a < 28) (hc : c ≤ 9) (hw : w < 2 ^ 31) (K0 : 10 ^ c ≤ w → pr (-9) (fS, fC, fA, fP, fW, fE, fN, fT, dn_A (rg_l R.1), R.2.1, dn_A R.2.2, aT, aO, aR, aA, aK, aH, aB, dn_A d))
    (K1 : w < 10 ^ c → ∀ d', bd_ d' → pr (o_dig R a w c).1 (fS, fC, fA, fP, fW, fE, fN, fT, dn_A (rg_l ((o_dig R a w c).2).1), ((o_dig R a w c).2).2.1, dn_A ((o_dig R a w c).2).2.2, aT, aO, aR, aA, aK, aH, aB, dn_A d')) :
    ∃ n30, wX_digits_30 pr (nI a) (nI w) (nI c) fS fC fA fP fW fE fN fT (dn_A (rg_l R.1)) R.2.1 (dn_A R.2.2) aT aO aR aA aK aH aB (dn_A d) n30 1 0 := by
  have i1 : vp_in (nI a) 28 := pk_in a 28 ha
  have ra : (nI a).toNatClampNeg = a := nI_clamp (by omega)
  have h9 := tp_9 hc
  have ca := (h a).2.2.2
  refine ⟨c + 1, xg_30 hc (fun f => br_t (nI_le (Nat.le_refl _) (by omega)) (pk_lt w (10 ^ c) (fun z => ?_) (fun z => K0 z) rfl rfl hw (by omega))) c 0 (by omega)⟩
  have K := K1 z
  have p1 : (10 : Nat) ^ 60 + 1000000000 < 10000 ^ 32 := by decide
  have lv : R.1 a * 10 ^ c < 10 ^ 60 := pw_le (h a).1 (by omega)
  refine x_ld h hB a 0 ha (by decide) (fun d1 b1 e1 _ f1 => x_up b1 0 c (by decide) (by omega) (by rw [e1]; omega) (fun d2 b2 e2 f2 => x_zero b2 32 32 (by decide) (fun d3 b3 z3 f3 => ?_)))
  rw [e1] at e2
  have q0 : w / 10000 ≤ w := Nat.div_le_self _ _
  refine ⟨by decide, nm_r (e' := dn_A (dn_u d3 32 (w % 10000))) (by rw [show (10000 : Int32) = nI 10000 by decide, pk_rem hw (by decide) (by decide)]; exact dn_up)
    ⟨by decide, by decide, nm_r (e' := dn_A (dn_u (dn_u d3 32 (w % 10000)) 33 (w / 10000 % 10000))) (by rw [show (10000 : Int32) = nI 10000 by decide, pk_div hw (by decide) (by decide), pk_rem (by omega) (by decide) (by decide)]; exact dn_up)
    ⟨by decide, nm_r (e' := dn_A (dn_u (dn_u (dn_u d3 32 (w % 10000)) 33 (w / 10000 % 10000)) 34 (w / 100000000))) (by rw [show (100000000 : Int32) = nI 100000000 by decide, pk_div hw (by decide) (by decide)]; exact dn_up) ?_⟩⟩⟩
  have b4 : bd_ (dn_u (dn_u (dn_u d3 32 (w % 10000)) 33 (w / 10000 % 10000)) 34 (w / 100000000)) := bd_u (bd_u (bd_u b3 (by omega)) (by omega)) (by omega)
  have v0 : dl_v 10000 (dn_u (dn_u (dn_u d3 32 (w % 10000)) 33 (w / 10000 % 10000)) 34 (w / 100000000)) 0 32 = R.1 a * 10 ^ c := by
    rw [dl_u (by decide), dl_u (by decide), dl_u (by decide), fr_v f3 (by decide), e2]
  have v1 : dl_v 10000 (dn_u (dn_u (dn_u d3 32 (w % 10000)) 33 (w / 10000 % 10000)) 34 (w / 100000000)) 32 3 = w := by
    rw [dl_low, dl_low, dl_low, dl_0, dn_un (by decide), dn_un (by decide), dn_us, dn_un (by decide), dn_us, dn_us]
    omega
  generalize dn_u (dn_u (dn_u d3 32 (w % 10000)) 33 (w / 10000 % 10000)) 34 (w / 100000000) = d4 at *
  refine x_plus b4 0 32 3 32 (by decide) (by decide) (by decide) (by decide) (by rw [v0, v1]; omega) (fun d5 b5 e5 f5 => ⟨i1, ?_⟩)
  rw [v0, v1] at e5
  rw [ra]
  unfold o_dig at K
  have go : ∀ s : Int32, s = (if 0 ≤ R.2.1 a then 1 else -1) → sn_ s → wX_digits_139 pr (nI a) s fS fC fA fP fW fE fN fT (dn_A (rg_l R.1)) R.2.1 (dn_A R.2.2) aT aO aR aA aK aH aB (dn_A d5) := by
    intro s hs hsn
    refine ⟨i1, ?_⟩
    rw [dn_rd a rfl (by omega)]
    refine x_store b5 a 0 32 (R.2.2 a) ha (by decide) (by decide) hsn (by omega) ?_
    rw [e5, hs]
    exact K d5 b5
  exact br_c (fun y => go 1 (by rw [if_pos y]) sn_1) (fun y => go (-1) (by rw [if_neg y]) sn_m)
end
section
variable {gP gT gW gJ gV gE : Int32} {bD bG bP bW bL bT bO bH : Nat → Int32}
variable {pr : Int32 → SY → Prop}
theorem yg_30 {a w c : Nat} (hc : c ≤ 9) (K : ∀ f, wY_digits_30 pr (nI a) (nI w) (nI c) gP gT gW gJ gV gE bD bG bP bW bL bT bO bH (f + 1) (nI (10 ^ c)) (nI c)) : ∀ m j : Nat, j + m = c →
    wY_digits_30 pr (nI a) (nI w) (nI c) gP gT gW gJ gV gE bD bG bP bW bL bT bO bH (m + 1) (nI (10 ^ j)) (nI j)
  | 0, j, hj => by rw [show j = c by omega]; exact K 0
  | m + 1, j, hj => pk_le c j (fun z => by omega) (fun _ => nm_r (e' := nI (10 ^ (j + 1))) (by rw [Nat.pow_succ]; exact pk_mul _ 10) (nm_r (nI_1 j) (yg_30 hc K m (j + 1) (by omega))))
theorem yg_71 {R : RR_} {a w c : Nat} (hc : c ≤ 9) (hw : w < 2 ^ 31) : ∀ (m j : Nat) (e : Nat → Nat), j + m = c →
    (∀ e', (∀ i, j ≤ i → i < c → e' i = w / 10 ^ i % 10) → fr_ e e' j c → (∀ f, wY_digits_71 pr (nI a) (nI c) gP gT gW gJ gV gE (f + 1) (nI (w / 10 ^ c)) (nI c) (dn_A (rg_d R.1)) R.2.1 (dn_A R.2.2) (dn_A e') bL bT bO bH)) →
    wY_digits_71 pr (nI a) (nI c) gP gT gW gJ gV gE (m + 1) (nI (w / 10 ^ j)) (nI j) (dn_A (rg_d R.1)) R.2.1 (dn_A R.2.2) (dn_A e) bL bT bO bH
  | 0, j, e, hj, K => by
    have q : j = c := by omega
    subst q
    exact K e (fun i _ _ => by omega) fr_r 0
  | m + 1, j, e, hj, K => by
    have hl : w / 10 ^ j ≤ w := Nat.div_le_self _ _
    refine pk_le c j (fun z => by omega) (fun _ => ⟨by decide, pk_in j 512 (by omega), nm_r (dn_st j (w / 10 ^ j % 10) rfl (pk_rem (d := 10) (by omega) (by decide) (by decide)) (by omega)) ⟨by decide, nm_r (e' := nI (w / 10 ^ (j + 1))) (by rw [show (10 : Int32) = nI 10 from rfl, pk_div (by omega) (by decide) (by decide), Nat.div_div_eq_div_mul, ← Nat.pow_succ]) (nm_r (nI_1 j) (yg_71 hc hw m (j + 1) _ (by omega) (fun e' h1 h2 => K e' (fun i g1 g2 => ?_) (fr_k h2 (by omega) (by omega) (by omega) (by omega)))))⟩⟩)
    rcases Nat.eq_or_lt_of_le g1 with q | q
    · subst q; rw [h2 j (by omega), dn_us]
    · exact h1 i q g2
theorem ar_low {e e' : Nat → Nat} {x w c L : Nat} (hL : c ≤ L) (hw : w < 10 ^ c) (h1 : ∀ k, k < L → e k < 10) (h2 : dl_v 10 e 0 L = x * 10 ^ c) (h3 : ∀ i, i < c → e' i = w / 10 ^ i % 10) (h4 : fr_ e e' 0 c) :
    (∀ k, k < L → e' k < 10) ∧ dl_v 10 e' 0 L = x * 10 ^ c + w := by
  obtain ⟨g, rfl⟩ : ∃ g, L = c + g := ⟨L - c, by omega⟩
  refine ⟨fun k hk => ?_, ?_⟩
  · rcases Nat.lt_or_ge k c with z | z
    · rw [h3 k z]; exact Nat.mod_lt _ (by decide)
    · rw [h4 k (by omega)]; exact h1 k hk
  · rw [dl_app] at h2
    rw [dl_app, dl_of' (v := w) hw (fun k hk => by rw [Nat.zero_add]; exact h3 k hk), fr_v h4 (by omega)]
    have hlt : dl_v 10 e 0 c < 10 ^ c := dl_lt (fun k hk => by rw [Nat.zero_add]; exact h1 k (by omega))
    have h5 : dl_v 10 e (0 + c) g = x := by
      have h6 : (dl_v 10 e 0 c + 10 ^ c * dl_v 10 e (0 + c) g) / 10 ^ c = x * 10 ^ c / 10 ^ c := by rw [h2]
      rw [Nat.add_mul_div_left _ _ (pw_pos c), Nat.div_eq_of_lt hlt, Nat.zero_add, Nat.mul_div_cancel _ (pw_pos c)] at h6
      exact h6
    rw [h5, Nat.mul_comm, Nat.add_comm]
theorem y_dig {R : RR_} {e : Nat → Nat} (h : wf_ R) (a w c : Nat) (ha : a < 32) (hc : c ≤ 9) (hw : w < 2 ^ 31) (K0 : 10 ^ c ≤ w → pr (-9) (gP, gT, gW, gJ, gV, gE, dn_A (rg_d R.1), R.2.1, dn_A R.2.2, dn_A e, bL, bT, bO, bH))
    (K1 : w < 10 ^ c → ∀ e', pr (o_dig R a w c).1 (gP, gT, gW, gJ, gV, gE, dn_A (rg_d ((o_dig R a w c).2).1), ((o_dig R a w c).2).2.1, dn_A ((o_dig R a w c).2).2.2, dn_A e', bL, bT, bO, bH)) :
    ∃ n30, wY_digits_30 pr (nI a) (nI w) (nI c) gP gT gW gJ gV gE (dn_A (rg_d R.1)) R.2.1 (dn_A R.2.2) (dn_A e) bL bT bO bH n30 1 0 := by
  have i1 : vp_in (nI a) 32 := pk_in a 32 ha
  have ra : (nI a).toNatClampNeg = a := nI_clamp (by omega)
  have h9 := tp_9 hc
  have ca := (h a).2.2.2
  refine ⟨c + 1, yg_30 hc (fun f => br_t (nI_le (Nat.le_refl _) (by omega)) (pk_lt w (10 ^ c) (fun z => ?_) (fun z => K0 z) rfl rfl hw (by omega))) c 0 (by omega)⟩
  have K := K1 z
  refine y_fetch h 0 a c (by decide) ha (by omega) (fun e1 a1 f1 => ⟨c + 1, ?_⟩)
  have g := yg_71 (pr := pr) (R := R) (gP := gP) (gT := gT) (gW := gW) (gJ := gJ) (gV := gV) (gE := gE) (bL := bL) (bT := bT) (bO := bO) (bH := bH) (a := a) hc hw c 0 e1 (by omega)
  rw [Nat.pow_zero, Nat.div_one] at g
  refine g (fun e2 h2 f2 f => br_t (nI_le (Nat.le_refl _) (by omega)) ⟨i1, ?_⟩)
  have a1b := a1.2
  have a1a := a1.1
  simp only [Nat.mul_zero, Nat.zero_add] at a1a
  rw [Nat.mul_zero] at a1b
  have a2 := ar_low (x := R.1 a) (w := w) (c := c) (by omega) z a1a a1b (fun i hi => h2 i (by omega) hi) f2
  have a3 : ar_ e2 0 (R.1 a * 10 ^ c + w) := ⟨fun k hk => by rw [Nat.mul_zero, Nat.zero_add]; exact a2.1 k hk, by rw [Nat.mul_zero]; exact a2.2⟩
  rw [ra]
  unfold o_dig at K
  have go : ∀ s : Int32, s = (if 0 ≤ R.2.1 a then 1 else -1) → wY_digits_118 pr (nI a) s 0 gP gT gW gJ gV gE (dn_A (rg_d R.1)) R.2.1 (dn_A R.2.2) (dn_A e2) bL bT bO bH := by
    intro s hs
    refine ⟨i1, ?_⟩
    rw [dn_rd a rfl (by omega)]
    refine y_keep (n := 0) (R.2.2 a) a (by decide) a3 ha (by omega) ?_
    rw [hs]
    exact K e2
  exact br_c (fun y => go 1 (by rw [if_pos y])) (fun y => go (-1) (by rw [if_neg y]))
end
theorem i_vc_digits {k : Nat} {u : SX} {v : SY} (I : i_Rel k u v) (hk : k + 4 ≤ 2048) (v1 : Int32) (v2 : Int32) (v3 : Int32) : wpX_digits (fun r u' => wpY_digits (fun r' v' => r' = r ∧ i_Rel (k + 4) u' v') v v1 v2 v3) u v1 v2 v3 := by
  refine rl_el I (P := fun u v => wpX_digits (fun r u' => wpY_digits (fun r' v' => r' = r ∧ i_Rel (k + 4) u' v') v v1 v2 v3) u v1 v2 v3) ?_
  intro fA fP fW fE fN fT gJ gV gE aT aO aR aA aK aH aB bL bT bO bH R S d e tk sc n h
  unfold wpX_digits wpY_digits
  rcases is_c v1 with ⟨a, ha, rfl⟩ | ⟨x1, y1⟩
  · refine x_isg ha (br_f (by decide) (br_c (fun z => y_outg ha (br_t rfl (br_t z ⟨rfl, rl_in h⟩))) (fun z => br_c (fun y => y_outg ha (br_t rfl (br_f z (br_t y ⟨rfl, rl_in h⟩)))) (fun y => br_c (fun x => ?_) (fun x => y_outg ha (br_t rfl (br_f z (br_f y (br_f x ⟨rfl, rl_in h⟩)))))))))
    obtain ⟨c, hc, rfl⟩ := nI_of2 (x := v3) (M := 9) (n := 9) (by decide) z (Int32.not_lt.mp y)
    obtain ⟨w, hw, rfl⟩ := nI_of (x := v2) (Int32.not_lt.mpr x)
    refine x_dig h.2.1 h.1 a w c (by omega) hc hw (fun q => y_outg ha (br_t rfl (br_f z (br_f y (br_t x (y_dig h.2.2.1 a w c (by omega) hc hw (fun _ => ⟨rfl, rl_in h⟩) (fun q2 => by omega))))))) (fun q d1 b1 => y_outg ha (br_t rfl (br_f z (br_f y (br_t x (y_dig h.2.2.1 a w c (by omega) hc hw (fun q2 => by omega) (fun _ e1 => rl_op h (po_dig h.2.2.2.1 (by omega)) (wf_dig h.2.1) (wf_dig h.2.2.1) b1)))))))
  · exact x1 _ (br_t rfl (y1 _ (br_f (by decide) ⟨rfl, rl_in h⟩)))
end
section
/-! digits in another base -/
def bx_ (v P b : Nat) : Nat → Nat
  | 0 => v
  | k + 1 => bx_ v P b k % P * b
theorem bx_m (v P b : Nat) : ∀ k : Nat, bx_ v P b k % P = v * b ^ k % P
  | 0 => by rw [Nat.pow_zero, Nat.mul_one]; rfl
  | k + 1 => by
    show bx_ v P b k % P * b % P = _
    rw [bx_m v P b k, Nat.mod_mul_mod, Nat.pow_succ, Nat.mul_assoc]
theorem bx_e {v P b k : Nat} (hP : 0 < P) : bx_ v P b (k + 1) / P = v * b ^ (k + 1) / P % b ∧ bx_ v P b (k + 1) / P < b ∨ b = 0 := by
  rcases Nat.eq_zero_or_pos b with z | z
  · exact Or.inr z
  · left
    have h1 : bx_ v P b k % P * b < P * b := Nat.mul_lt_mul_of_pos_right (Nat.mod_lt _ hP) z
    have h2 : bx_ v P b (k + 1) / P < b := Nat.div_lt_of_lt_mul h1
    refine ⟨?_, h2⟩
    have e : v * b ^ (k + 1) = v * b ^ k % P * b + P * (v * b ^ k / P * b) := by
      have := Nat.div_add_mod (v * b ^ k) P
      rw [Nat.pow_succ, ← Nat.mul_assoc, ← Nat.mul_assoc, ← Nat.add_mul, Nat.add_comm, this]
    rw [e, Nat.add_mul_div_left _ _ hP, ← bx_m, Nat.add_mul_mod_self_right]
    exact (Nat.mod_eq_of_lt h2).symm
theorem ar_0 {e : Nat → Nat} {v : Nat} : ar_ e 0 v ↔ (∀ k, k < 128 → e k < 10) ∧ dl_v 10 e 0 128 = v := by
  unfold ar_
  simp only [Nat.mul_zero, Nat.zero_add]
section
variable {fS fC fA fP fW fE fN fT : Int32} {aL aG aC aT aO aR aA aK aH aB aW : Nat → Int32}
variable {post : SX → Prop} {pr : Int32 → SX → Prop}
theorem xk_8 {f s : Nat} (hf : f < 32) : ∀ (m k : Nat) (d : Nat → Nat), bd_ d → k + m = 32 → f < k →
    (∀ d', bd_ d' → (∀ j, k ≤ j → j < 32 → d' j = 0) → fr_ d d' k 32 → (∀ g, wX_keepBelow_8 post (nI s) (nI f) fS fC fA fP fW fE fN fT (g + 1) 32 aL aG aC aT aO aR aA aK aH aB (dn_A d'))) →
    wX_keepBelow_8 post (nI s) (nI f) fS fC fA fP fW fE fN fT (m + 1) (nI k) aL aG aC aT aO aR aA aK aH aB (dn_A d)
  | 0, k, d, hB, hk, hfk, K => by
    have e : k = 32 := by omega
    subst e
    exact K d hB (fun j _ _ => by omega) fr_r 0
  | m + 1, k, d, hB, hk, hfk, K => by
    refine pk_le 32 k (fun z => by omega) (fun _ => ⟨pk_in k 240 (by omega), nm_r (dn_st k 0 rfl rfl (by omega)) (nm_r (nI_1 k) (xk_8 hf m (k + 1) _ (bd_u hB (by decide)) (by omega) (by omega) (fun d' b' z' f' => K d' b' (fun j j1 j2 => ?_) (fr_k f' (by omega) (by omega) (by omega) (by omega)))))⟩)
    rcases Nat.eq_or_lt_of_le j1 with q | q
    · subst q; rw [f' k (by omega), dn_us]
    · exact z' j q j2
theorem x_keepB {d : Nat → Nat} (hB : bd_ d) (s : Nat) (hs : s ≤ 20)
    (K : ∀ d', bd_ d' → dl_v 10000 d' 0 32 = dl_v 10000 d 0 32 % 10 ^ s → fr_ d d' 0 32 → post (fS, fC, fA, fP, fW, fE, fN, fT, aL, aG, aC, aT, aO, aR, aA, aK, aH, aB, dn_A d')) : wpX_keepBelow post (fS, fC, fA, fP, fW, fE, fN, fT, aL, aG, aC, aT, aO, aR, aA, aK, aH, aB, dn_A d) (nI s) := by
  have hp := pw_pos (s % 4)
  have hp5 := p4_lt (s % 4) (by omega)
  refine nm_r (e' := nI (s / 4)) (pk_shrN (by omega) _ 2 (by decide)) (nm_r (nI_1 _) ⟨32 - (s / 4 + 1) + 1, xk_8 (by omega) _ (s / 4 + 1) d hB (by omega) (by omega) (fun d1 b1 z1 f1 g => br_t (by decide) ⟨pk_in (s / 4) 240 (by omega), ?_⟩)⟩)
  rw [show nI s &&& 3 = nI (s % 4) from pk_andN (by omega) 2 (by decide)]
  have hd := b1 (s / 4)
  refine x_ten (s % 4) (Nat.mod_lt _ (by decide)) ⟨nI_ne0 hp (by omega), pk_in (s / 4) 240 (by omega), nm_r (dn_st (s / 4) (d1 (s / 4) % 10 ^ (s % 4)) rfl (by rw [dn_rd _ rfl (by omega), pk_rem (by omega) hp (by omega)]) (by omega)) (K _ (bd_u b1 (Nat.lt_of_le_of_lt (Nat.mod_le _ _) hd)) ?_ (fun j hj => by rw [dn_un (by omega), f1 j (by omega)]))⟩
  have hlow : dl_v 10000 d 0 (s / 4) = dl_v 10000 d 0 32 % 10000 ^ (s / 4) := by
    have h1 : dl_v 10000 d 0 32 = dl_v 10000 d 0 (s / 4 + (32 - s / 4)) := by rw [show s / 4 + (32 - s / 4) = 32 by omega]
    rw [h1, dl_app, Nat.add_mul_mod_self_left, Nat.mod_eq_of_lt (dl_lt (fun k _ => b_of hB))]
  have hdig : d (s / 4) = dl_v 10000 d 0 32 / 10000 ^ (s / 4) % 10000 := by
    have := dl_dig (B := 10000) (d := d) (a := 0) (n := 32) (k := s / 4) (fun k _ => b_of hB) (by omega)
    rwa [Nat.zero_add] at this
  rw [dl_ext (m := s / 4 + 1) (by omega) (fun k k1 k2 => by rw [Nat.zero_add, dn_un (by omega)]; exact z1 k k1 k2), dl_s, dl_u (by omega), Nat.zero_add, dn_us, fr_v f1 (by omega), f1 _ (by omega), hlow, hdig, ← p4_ s, Nat.mod_mul, Nat.mul_comm]
  refine congrArg (fun z => dl_v 10000 d 0 32 % 10000 ^ (s / 4) + 10000 ^ (s / 4) * z) ?_
  generalize dl_v 10000 d 0 32 / 10000 ^ (s / 4) = w
  have : s % 4 = 0 ∨ s % 4 = 1 ∨ s % 4 = 2 ∨ s % 4 = 3 := by omega
  rcases this with e | e | e | e <;> rw [e]
  · rw [Nat.pow_zero, Nat.mod_one, Nat.mod_one]
  · rw [Nat.pow_one]; omega
  · rw [show (10 : Nat) ^ 2 = 100 by decide]; omega
  · rw [show (10 : Nat) ^ 3 = 1000 by decide]; omega
theorem ni_n1 (k : Nat) : -nI k + (-1) = -nI (k + 1) := by rw [← nI_1, Int32.neg_add, Int32.sub_eq_add_neg]
theorem sb_nle {a b : Nat} (ha : a < 2 ^ 31) (hb : b < 2 ^ 31) : -nI a ≤ -nI b ↔ b ≤ a := by
  rw [Int32.le_iff_toInt_le, sb_negT ha, sb_negT hb]; omega
theorem xb_96 {b p s v : Nat} (hb : 2 ≤ b) (hb2 : b ≤ 1000) (hp : p ≤ 20) (hp0 : 0 < p) (hs : s ≤ 20) (hv : v < 10 ^ 40)
    (K : ∀ d', bd_ d' → pr (nI (bx_ v (10 ^ s) b p / 10 ^ s)) (fS, fC, fA, fP, fW, fE, fN, fT, aL, aG, aC, aT, aO, aR, aA, aK, aH, aB, dn_A d')) : ∀ (m k : Nat) (d : Nat → Nat), bd_ d → k + m = p → dl_v 10000 d 0 32 = bx_ v (10 ^ s) b k →
    wX_based_96 pr (nI b) (-nI p) (nI s) (m + 1) (-nI k) fS fC fA fP fW fE fN fT aL aG aC aT aO aR aA aK aH aB (dn_A d)
  | 0, k, d, hB, hk, e => by
    have ek : k = p := by omega
    subst ek
    refine br_t ((sb_nle (by omega) (by omega)).mpr (Nat.le_refl _)) (x_down hB 0 32 s (by decide) (by omega) (fun d1 b1 e1 f1 => ?_))
    rw [e] at e1
    have hlt : bx_ v (10 ^ s) b k / 10 ^ s < 10000 := by
      obtain ⟨q, rfl⟩ : ∃ q, k = q + 1 := ⟨k - 1, by omega⟩
      rcases bx_e (v := v) (P := 10 ^ s) (b := b) (k := q) (pw_pos s) with z | z
      · omega
      · omega
    have h0 : d1 0 = bx_ v (10 ^ s) b k / 10 ^ s := by
      rw [← e1, dl_cut (m := 1) (by decide) (by decide) (by rw [e1]; omega), dl_low, dl_0]; rfl
    show pr (nI (d1 0)) _
    rw [h0]
    exact K d1 b1
  | m + 1, k, d, hB, hk, e => by
    have hP : 10 ^ s ≤ 10 ^ 20 := Nat.pow_le_pow_right (by decide) hs
    have hm : bx_ v (10 ^ s) b k % 10 ^ s < 10 ^ s := Nat.mod_lt _ (pw_pos s)
    have h3 : bx_ v (10 ^ s) b k % 10 ^ s * b ≤ 10 ^ 20 * 1000 := Nat.mul_le_mul (by omega) hb2
    have p1 : (10 : Nat) ^ 20 * 1000 < 10000 ^ 32 := by decide
    refine br_f (fun z => by rw [sb_nle (by omega) (by omega)] at z; omega) (x_keepB hB s hs (fun d1 b1 e1 f1 => ?_))
    rw [e] at e1
    refine x_scale b1 0 32 b (by decide) (by omega) (by omega) (by rw [e1]; omega) (fun d2 b2 e2 f2 => nm_r (ni_n1 k) (xb_96 hb hb2 hp hp0 hs hv K m (k + 1) d2 b2 (by omega) ?_))
    rw [e2, e1]; rfl
theorem xb_68 {b q v : Nat} (hb : 2 ≤ b) (hb2 : b ≤ 1000) (hq : q < 200)
    (K : ∀ d', bd_ d' → pr (nI (v / b ^ q % b)) (fS, fC, fA, fP, fW, fE, fN, fT, aL, aG, aC, aT, aO, aR, aA, aK, aH, aB, dn_A d')) : ∀ (m k : Nat) (x : Int32) (d : Nat → Nat), bd_ d → k + m = q + 1 → dl_v 10000 d 0 32 = v / b ^ k → (∀ j, k = j + 1 → x = nI (v / b ^ j % b)) →
    wX_based_68 pr (nI b) (nI q) (m + 1) x (nI k) fS fC fA fP fW fE fN fT aL aG aC aT aO aR aA aK aH aB (dn_A d)
  | 0, k, x, d, hB, hk, e, hx => by
    refine pk_lt q k (fun _ => ?_) (fun z => by omega)
    rw [hx q (by omega)]
    exact K d hB
  | m + 1, k, x, d, hB, hk, e, hx => by
    refine pk_lt q k (fun z => by omega) (fun _ => x_cut hB 0 32 b (by decide) (by omega) (by omega) (fun d1 b1 e1 f1 => nm_r (nI_1 k) ?_))
    rw [e] at e1 ⊢
    refine xb_68 hb hb2 hq K m (k + 1) _ d1 b1 (by omega) (by rw [e1, Nat.div_div_eq_div_mul, ← Nat.pow_succ]) (fun j hj => ?_)
    rw [show j = k by omega]
end
section
variable {gP gT gW gJ gV gE : Int32} {bD bG bP bW bL bT bO bH : Nat → Int32}
variable {post : SY → Prop} {pr : Int32 → SY → Prop}
theorem yb_58 {J : Int32 → (Nat → Int32) → (Nat → Int32) → (Nat → Int32) → (Nat → Int32) → (Nat → Int32) → (Nat → Int32) → (Nat → Int32) → (Nat → Int32) → Prop}
    {x1 x3 : Int32} {b i L : Nat} (hL : L = 128) (hb : b ≤ 1000) (hi : i < 100) : ∀ (r k c : Nat) (d : Nat → Nat), k + r = L → c < b → (∀ j, k ≤ j → j < L → d j < 10) →
    (∀ d' c', (∀ j, k ≤ j → j < L → d' j < 10) → dl_v 10 d' k r + c' * 10 ^ r = dl_v 10 d k r * b + c → fr_ d d' k L → J (nI (i + 1)) bD bG bP (dn_A d') bL bT bO bH) →
    wY_based_58 pr J x1 (nI b) x3 (nI i) gP gT gW gJ gV gE (r + 1) (nI c) (nI k) bD bG bP (dn_A d) bL bT bO bH
  | 0, k, c, d, hk, hc, h1, K => pk_le 128 k (fun _ => nm_r (nI_1 i) (K d c h1 (by simp only [dl_0]; omega) fr_r)) (fun z => by omega)
  | r + 1, k, c, d, hk, hc, h1, K => by
    have g1 := h1 k (by omega) (by omega)
    have hv : d k * b + c < 10 * b := by
      have := Nat.mul_le_mul_right b (show d k + 1 ≤ 10 from g1)
      rw [Nat.add_mul, Nat.one_mul] at this
      omega
    generalize ev : d k * b + c = v at hv
    refine pk_le 128 k (fun z => by omega) (fun _ => ⟨pk_in k 512 (by omega), nm_r (e' := nI v) (by rw [dn_rd k rfl (by omega), pk_mul, nI_add, ev])
      ⟨by decide, pk_in k 512 (by omega), nm_r (dn_st k (v % 10) rfl (pk_rem (d := 10) (by omega) (by decide) (by decide)) (by omega))
      ⟨by decide, nm_r (pk_div (d := 10) (by omega) (by decide) (by decide)) (nm_r (nI_1 k) (yb_58 hL hb hi r (k + 1) (v / 10) _ (by omega) (by omega) (fun j j1 j2 => by rw [dn_un (by omega)]; exact h1 j (by omega) j2)
        (fun d' c' b' e' f' => K d' c' (fun j j1 j2 => ?_) ?_ (fr_k f' (by omega) (by omega) (by omega) (by omega)))))⟩⟩⟩)
    · rcases Nat.eq_or_lt_of_le j1 with q | q
      · subst q; rw [f' _ (by omega), dn_us]; omega
      · exact b' j q j2
    · rw [dl_low, dl_low, Nat.pow_succ, f' k (by omega), dn_us]
      refine pa_mul ev.symm ?_
      rw [dl_u (by omega)] at e'
      exact e'
theorem yb_5 {q L : Nat} (hL : L = 128) (hq : q ≤ 1000) : ∀ (i r : Nat) (d : Nat → Nat), i ≤ L → r < q → (∀ j, j < i → d j < 10) →
    (∀ d' r', (∀ j, j < i → d' j < 10) → r' < q → dl_v 10 d' 0 i * q + r' = dl_v 10 d 0 i + r * 10 ^ i → fr_ d d' 0 i → pr (nI r') (gP, gT, gW, gJ, gV, gE, bD, bG, bP, dn_A d', bL, bT, bO, bH)) →
    wY_shortRest_5 pr (nI q) gP gT gW gJ gV gE (i + 1) (nI r) (nI i + (-1)) bD bG bP (dn_A d) bL bT bO bH
  | 0, r, d, hi, hr, h1, K => br_t (by decide) (K d r (fun j hj => by omega) hr (by simp only [dl_0]; omega) fr_r)
  | i + 1, r, d, hi, hr, h1, K => by
    rw [pk_m1]
    have ht := h1 i (by omega)
    have hv : r * 10 + d i < q * 10 := by omega
    generalize ev : r * 10 + d i = v at hv
    have hn : ¬ nI q = 0 := nI_ne0 (by omega) (by omega)
    have hd : v / q < 10 := Nat.div_lt_of_lt_mul hv
    refine br_f (nI_pos (by omega)) ⟨pk_in i 512 (by omega), nm_r (e' := nI v) (by rw [dn_rd i rfl (by omega), show (10 : Int32) = nI 10 from rfl, pk_mul, nI_add, ← ev, Nat.mul_comm])
      ⟨hn, pk_in i 512 (by omega), nm_r (dn_st i (v / q) rfl (pk_div (by omega) (by omega) (by omega)) (by omega))
      ⟨hn, nm_r (pk_rem (by omega) (by omega) (by omega)) (nm_e (yb_5 hL hq i (v % q) _ (by omega) (Nat.mod_lt _ (by omega)) (fun j hj => by rw [dn_un (by omega)]; exact h1 j (by omega)) (fun d' r' b' l' e' f' => K d' r' (fun j hj => ?_) l' ?_ (fr_k f' (by omega) (by omega) (by omega) (by omega)))))⟩⟩⟩
    · rcases Nat.lt_or_ge j i with z | z
      · exact b' j z
      · rw [show j = i by omega, f' i (by omega), dn_us]; exact hd
    · rw [dl_s, dl_s, Nat.pow_succ, Nat.zero_add, f' i (by omega), dn_us]
      refine pa_div ev.symm ?_
      rw [dl_u (by omega)] at e'
      exact e'
theorem yb_g {q L : Nat} {d : Nat → Nat} (hL : L = 128) (hq : q ≤ 1000) (h0 : 0 < q) (h1 : ∀ j, j < L → d j < 10)
    (K : ∀ d', (∀ j, j < L → d' j < 10) → dl_v 10 d' 0 L = dl_v 10 d 0 L / q → pr (nI (dl_v 10 d 0 L % q)) (gP, gT, gW, gJ, gV, gE, bD, bG, bP, dn_A d', bL, bT, bO, bH)) :
    wY_shortRest_5 pr (nI q) gP gT gW gJ gV gE (L + 1) 0 (nI L + (-1)) bD bG bP (dn_A d) bL bT bO bH :=
  yb_5 hL hq L 0 d (Nat.le_refl _) h0 h1 (fun d' r' b' l' e' f' => by
    rw [Nat.zero_mul, Nat.add_zero] at e'
    have e1 : dl_v 10 d 0 L / q = dl_v 10 d' 0 L := by
      rw [← e', Nat.mul_comm, Nat.mul_add_div h0, Nat.div_eq_of_lt l', Nat.add_zero]
    have e2 : dl_v 10 d 0 L % q = r' := by
      rw [← e', Nat.mul_comm, Nat.mul_add_mod, Nat.mod_eq_of_lt l']
    have := K d' b' e1.symm
    rw [e2] at this
    exact this)
theorem y_short {e : Nat → Nat} {v : Nat} (q : Nat) (hq : q ≤ 1000) (h0 : 0 < q) (h : ar_ e 0 v)
    (K : ∀ e', ar_ e' 0 (v / q) → pr (nI (v % q)) (gP, gT, gW, gJ, gV, gE, bD, bG, bP, dn_A e', bL, bT, bO, bH)) : wpY_shortRest pr (gP, gT, gW, gJ, gV, gE, bD, bG, bP, dn_A e, bL, bT, bO, bH) (nI q) := by
  have h' := ar_0.mp h
  have g := yb_g (pr := pr) (gP := gP) (gT := gT) (gW := gW) (gJ := gJ) (gV := gV) (gE := gE) (bD := bD) (bG := bG) (bP := bP) (bL := bL) (bT := bT) (bO := bO) (bH := bH) (L := 128) rfl hq h0 h'.1 (fun d' b' e' => by
    rw [h'.2] at e' ⊢
    exact K d' (ar_0.mpr ⟨b', e'⟩))
  exact ⟨129, g⟩
theorem yb_132 {b q v : Nat} {x3 : Int32} (hb : 2 ≤ b) (hb2 : b ≤ 1000) (hq : q < 200) (hx : (x3 = nI q) ∨ (q = 0 ∧ x3 ≤ 0))
    (K : ∀ e', pr (nI (v / b ^ q % b)) (gP, gT, gW, gJ, gV, gE, bD, bG, bP, dn_A e', bL, bT, bO, bH)) : ∀ (m k : Nat) (e : Nat → Nat), k + m = q → ar_ e 0 (v / b ^ (k + 1)) →
    wY_based_132 pr (nI b) x3 (m + 1) (nI (v / b ^ k % b)) (nI k) gP gT gW gJ gV gE bD bG bP (dn_A e) bL bT bO bH
  | 0, k, e, hk, a => by
    have ek : k = q := by omega
    subst ek
    refine br_t ?_ (K e)
    rcases hx with z | z
    · rw [z]; exact nI_le (Nat.le_refl _) (by omega)
    · rw [z.1]; exact z.2
  | m + 1, k, e, hk, a => by
    rcases hx with z | z
    · subst z
      refine pk_le q k (fun z => by omega) (fun _ => y_short b hb2 (by omega) a (fun e1 a1 => nm_r (nI_1 k) (yb_132 hb hb2 hq (Or.inl rfl) K m (k + 1) e1 (by omega) ?_)))
      rw [Nat.div_div_eq_div_mul, ← Nat.pow_succ] at a1
      exact a1
    · omega
/-- the rest of the walk, from the point that all factors are in -/
theorem yb_45 {R : RR_} (h : wf_ R) {a b p q V : Nat} {x3 : Int32} (ha : a < 32) (hb : 2 ≤ b) (hb2 : b ≤ 1000) (hp : p ≤ 20) (hq : q < 200) (hx : (x3 = nI q) ∨ (q = 0 ∧ x3 ≤ 0)) (hx2 : -x3 = nI p ∨ (p = 0 ∧ -x3 ≤ 0)) (hV : V = R.1 a * b ^ p / 10 ^ R.2.2 a)
    (K : ∀ e', pr (nI (V / b ^ q % b)) (gP, gT, gW, gJ, gV, gE, dn_A (rg_d R.1), R.2.1, dn_A R.2.2, dn_A e', bL, bT, bO, bH)) : ∀ (m k : Nat) (e : Nat → Nat), k + m = p → ar_ e 0 (R.1 a * b ^ k) →
    wY_based_45 pr (nI a) (nI b) x3 gP gT gW gJ gV gE (m + 1) (nI k) (dn_A (rg_d R.1)) R.2.1 (dn_A R.2.2) (dn_A e) bL bT bO bH
  | 0, k, e, hk, a0 => by
    have ek : k = p := by omega
    subst ek
    have i1 : vp_in (nI a) 32 := pk_in a 32 ha
    have ca := (h a).2.2.2
    refine br_t ?_ ⟨i1, ?_⟩
    · rcases hx2 with z | z
      · rw [z]; exact nI_le (Nat.le_refl _) (by omega)
      · rw [z.1]; exact z.2
    · rw [dn_rd a rfl (by omega)]
      refine y_drop (n := 0) (R.2.2 a) (by decide) a0 (by omega) (fun e1 a1 f1 => ?_)
      rw [← hV] at a1
      refine y_short b hb2 (by omega) a1 (fun e2 a2 => ⟨q + 1, ?_⟩)
      have g := yb_132 (pr := pr) (gP := gP) (gT := gT) (gW := gW) (gJ := gJ) (gV := gV) (gE := gE) (bD := dn_A (rg_d R.1)) (bG := R.2.1) (bP := dn_A R.2.2) (bL := bL) (bT := bT) (bO := bO) (bH := bH) (v := V) hb hb2 hq hx K q 0 e2 (by omega) (by rw [Nat.zero_add, Nat.pow_one]; exact a2)
      rw [Nat.pow_zero, Nat.div_one] at g
      exact g
  | m + 1, k, e, hk, a0 => by
    rcases hx2 with z | z
    · have hb3 : b ^ (k + 1) ≤ 1000 ^ 20 := Nat.le_trans (Nat.pow_le_pow_left hb2 _) (Nat.pow_le_pow_right (by decide) (by omega))
      have ho : R.1 a * b ^ (k + 1) < 10 ^ 128 := by
        have h1 : R.1 a * b ^ (k + 1) ≤ R.1 a * 1000 ^ 20 := Nat.mul_le_mul_left _ hb3
        have h2 : R.1 a * 1000 ^ 20 < 10 ^ 40 * 1000 ^ 20 := Nat.mul_lt_mul_of_pos_right (h a).1 (by decide)
        have h3 : (10 : Nat) ^ 40 * 1000 ^ 20 < 10 ^ 128 := by decide
        exact Nat.lt_trans (Nat.lt_of_le_of_lt h1 h2) h3
      have a1 := ar_0.mp a0
      refine br_f (fun y => by rw [z, nI_leI (by omega) (by omega)] at y; omega) ⟨128 + 1, yb_58 (L := 128) rfl hb2 (by omega) 128 0 0 e rfl (by omega) (fun j _ hj => a1.1 j hj) (fun d' c' b' e' f' => ?_)⟩
      refine yb_45 h ha hb hb2 hp hq hx (Or.inl z) hV K m (k + 1) d' (by omega) (ar_0.mpr ⟨fun j hj => b' j (by omega) hj, ?_⟩)
      rw [a1.2, Nat.add_zero, Nat.mul_assoc, ← Nat.pow_succ] at e'
      exact ov_0 e' ho
    · omega
end

theorem ng_of {x : Int32} (h1 : x < 0) (h2 : ¬ x < -20) : ∃ p, 0 < p ∧ p ≤ 20 ∧ x = -nI p := by
  rw [Int32.lt_iff_toInt_lt, show (0 : Int32).toInt = 0 by decide] at h1
  rw [Int32.lt_iff_toInt_lt, show (-20 : Int32).toInt = -20 by decide] at h2
  refine ⟨(-x.toInt).toNat, by omega, by omega, Int32.toInt_inj.mp ?_⟩
  rw [sb_negT (by omega)]
  omega
theorem ng_le {p : Nat} (h : p < 2 ^ 31) : -nI p ≤ 0 := by
  rw [Int32.le_iff_toInt_le, sb_negT h, show (0 : Int32).toInt = 0 by decide]; omega
theorem i_vc_based {k : Nat} {u : SX} {v : SY} (I : i_Rel k u v) (hk : k + 4 ≤ 2048) (v1 : Int32) (v2 : Int32) (v3 : Int32) : wpX_based (fun r u' => wpY_based (fun r' v' => r' = r ∧ i_Rel (k + 4) u' v') v v1 v2 v3) u v1 v2 v3 := by
  refine rl_el I (P := fun u v => wpX_based (fun r u' => wpY_based (fun r' v' => r' = r ∧ i_Rel (k + 4) u' v') v v1 v2 v3) u v1 v2 v3) ?_
  intro fA fP fW fE fN fT gJ gV gE aT aO aR aA aK aH aB bL bT bO bH R S d e tk sc n h
  unfold wpX_based wpY_based
  rcases is_c v1 with ⟨a, ha, rfl⟩ | ⟨x1, y1⟩
  · refine x_isg ha (br_f (by decide) (br_c (fun z => y_outg ha (br_t rfl (br_t z ⟨rfl, rl_in h⟩))) (fun z => br_c (fun y => y_outg ha (br_t rfl (br_f z (br_t y ⟨rfl, rl_in h⟩)))) (fun y => br_c (fun x => y_outg ha (br_t rfl (br_f z (br_f y (br_t x ⟨rfl, rl_in h⟩))))) (fun x => br_c (fun w => ?_) (fun w => y_outg ha (br_t rfl (br_f z (br_f y (br_f x (br_f w ⟨rfl, rl_in h⟩)))))))))))
    obtain ⟨b, hb2, rfl⟩ := nI_of2 (x := v2) (M := 1000) (n := 1000) (by decide) (fun q => z (Int32.lt_trans q (by decide))) (Int32.not_lt.mp y)
    have hb : 2 ≤ b := by
      rcases Nat.lt_or_ge b 2 with q | q
      · exact absurd (nI_lt (b := 2) q (by decide)) z
      · exact q
    have ha1 := (h.2.2.2.1 a (by omega)).1
    have ha3 := (h.2.2.2.1 a (by omega)).2.2
    have ca := (h.2.1 a).2.2.2
    have i1 : vp_in (nI a) 28 := pk_in a 28 (by omega)
    refine ⟨i1, nm_r (e' := nI (R.2.2 a)) (dn_rd a rfl (by omega)) (x_ld h.2.1 h.1 a 0 (by omega) (by decide) (fun d1 b1 e1 _ f1 => br_c (fun q => ?_) (fun q => ?_)))⟩
    · obtain ⟨p, hp0, hp, rfl⟩ := ng_of q x
      refine ⟨p + 1, xb_96 (v := R.1 a) hb hb2 hp hp0 ca (h.2.1 a).1 (fun d2 b2 => ?_) p 0 d1 b1 (by omega) e1⟩
      refine y_outg ha (br_t rfl (br_f z (br_f y (br_f x (br_t w (y_fetch h.2.2.1 0 a 0 (by decide) (by omega) (by decide) (fun e2 a2 f2 => ⟨p + 1, ?_⟩)))))))
      rw [Nat.pow_zero, Nat.mul_one] at a2
      refine yb_45 (q := 0) (p := p) h.2.2.1 (by omega) hb hb2 hp (by decide) (Or.inr ⟨rfl, ng_le (by omega)⟩) (Or.inl (Int32.neg_neg)) rfl (fun e3 => ⟨congrArg nI ?_, rl_in ⟨b2, h.2⟩⟩) p 0 e2 (by omega) (by rw [Nat.pow_zero, Nat.mul_one]; exact a2)
      obtain ⟨j, rfl⟩ : ∃ j, p = j + 1 := ⟨p - 1, by omega⟩
      rcases bx_e (v := R.1 a) (P := 10 ^ R.2.2 a) (b := b) (k := j) (pw_pos _) with o | o
      · rw [Nat.pow_zero, Nat.div_one, o.1, ha1, ha3]
      · omega
    · obtain ⟨g, hg, rfl⟩ := nI_of2 (x := v3) (M := 139) (n := 139) (by decide) q w
      refine x_down b1 0 32 (R.2.2 a) (by decide) (by omega) (fun d2 b2 e2 f2 => ⟨g + 1 + 1, xb_68 (v := R.1 a / 10 ^ R.2.2 a) hb hb2 (by omega) (fun d3 b3 => ?_) (g + 1) 0 0 d2 b2 (by omega) (by rw [e2, e1, Nat.pow_zero, Nat.div_one]) (fun j hj => by omega)⟩)
      refine y_outg ha (br_t rfl (br_f z (br_f y (br_f x (br_t w (y_fetch h.2.2.1 0 a 0 (by decide) (by omega) (by decide) (fun e3 a3 f3 => ⟨0 + 1, ?_⟩)))))))
      rw [Nat.pow_zero, Nat.mul_one] at a3
      refine yb_45 (q := g) (p := 0) h.2.2.1 (by omega) hb hb2 (by decide) (by omega) (Or.inl rfl) (Or.inr ⟨rfl, ng_le (by omega)⟩) rfl (fun e4 => ⟨congrArg nI ?_, rl_in ⟨b3, h.2⟩⟩) 0 0 e3 (by omega) (by rw [Nat.pow_zero, Nat.mul_one]; exact a3)
      rw [Nat.pow_zero, Nat.mul_one, ha1, ha3]
  · exact x1 _ (br_t rfl (y1 _ (br_f (by decide) ⟨rfl, rl_in h⟩)))
end
section
/-! lines: the grammar, with the code that stands for each range. O, A, B: operations, operands, places -/
def bo_ (t : Nat) : Prop := t = 20 ∨ t = 10 ∨ t = 11 ∨ t = 12 ∨ t = 13 ∨ t = 14 ∨ t = 15
def lv_ (t : Nat) : Nat := if t = 20 then 3 else if t = 10 then 4 else if t = 11 then 4 else if t = 15 then 7 else 5
def ll_ (t : Nat) : Nat := if t = 20 then 3 else if t = 10 then 4 else if t = 11 then 4 else if t = 15 then 8 else 5
def rl_ (t : Nat) : Nat := if t = 20 then 4 else if t = 10 then 5 else if t = 11 then 5 else if t = 15 then 6 else 6
def gc_ (T : Nat → Nat) (O A B : Nat → Int32) (S : Nat → Nat → Nat → Nat → Nat → Prop) : Prop :=
  (∀ lo p, T lo < 8 → O p = 31 → A p = nI (T lo) → S 8 lo (lo + 1) p (p + 1)) ∧
  (∀ lo p v, T lo = 1000 + v → v < 1000 → O p = 32 → A p = nI v → S 8 lo (lo + 1) p (p + 1)) ∧
  (∀ lo hi p q, T lo = 16 → S 0 (lo + 1) hi p q → T hi = 17 → S 8 lo (hi + 1) p q) ∧
  (∀ lo hi p q, T lo = 18 → T (lo + 1) = 16 → S 0 (lo + 2) hi p q → T hi = 17 → O q = 18 → B q = nI lo → S 8 lo (hi + 1) p (q + 1)) ∧
  (∀ lo m hi p p1 p2, bo_ (T m) → S (ll_ (T m)) lo m p p1 → S (rl_ (T m)) (m + 1) hi p1 p2 → O p2 = nI (T m) → B p2 = nI m → S (lv_ (T m)) lo hi p (p2 + 1)) ∧
  (∀ lo hi p q, T lo = 11 → S 6 (lo + 1) hi p q → O q = 30 → S 6 lo hi p (q + 1)) ∧
  (∀ lo m c hi p p1 p2 p3, T m = 21 → T c = 22 → S 3 lo m p p1 → S 0 (m + 1) c (p1 + 1) p2 → S 0 (c + 1) hi (p2 + 1) p3 → O p1 = 34 → A p1 = nI (p2 + 1) → O p2 = 35 → A p2 = nI p3 → S 0 lo hi p p3) ∧
  (∀ lo hi p q, T lo < 8 → T (lo + 1) = 19 → S 0 (lo + 2) hi p q → O q = 33 → A q = nI (T lo) → S 0 lo hi p (q + 1)) ∧
  (∀ l l' lo hi p q, l' ≤ l → S l lo hi p q → S l' lo hi p q)
def G_ (T : Nat → Nat) (O A B : Nat → Int32) (l lo hi p q : Nat) : Prop := ∀ S, gc_ T O A B S → S l lo hi p q
theorem gc_G (T : Nat → Nat) (O A B : Nat → Int32) : gc_ T O A B (G_ T O A B) :=
  ⟨fun lo p h1 h2 h3 S hS => hS.1 lo p h1 h2 h3,
   fun lo p v h1 h2 h3 h4 S hS => hS.2.1 lo p v h1 h2 h3 h4,
   fun lo hi p q h1 h2 h3 S hS => hS.2.2.1 lo hi p q h1 (h2 S hS) h3,
   fun lo hi p q h1 h2 h3 h4 h5 h6 S hS => hS.2.2.2.1 lo hi p q h1 h2 (h3 S hS) h4 h5 h6,
   fun lo m hi p p1 p2 h1 h2 h3 h4 h5 S hS => hS.2.2.2.2.1 lo m hi p p1 p2 h1 (h2 S hS) (h3 S hS) h4 h5,
   fun lo hi p q h1 h2 h3 S hS => hS.2.2.2.2.2.1 lo hi p q h1 (h2 S hS) h3,
   fun lo m c hi p p1 p2 p3 h1 h2 h3 h4 h5 h6 h7 h8 h9 S hS => hS.2.2.2.2.2.2.1 lo m c hi p p1 p2 p3 h1 h2 (h3 S hS) (h4 S hS) (h5 S hS) h6 h7 h8 h9,
   fun lo hi p q h1 h2 h3 h4 h5 S hS => hS.2.2.2.2.2.2.2.1 lo hi p q h1 h2 (h3 S hS) h4 h5,
   fun l l' lo hi p q h1 h2 S hS => hS.2.2.2.2.2.2.2.2 l l' lo hi p q h1 (h2 S hS)⟩
section
variable {T : Nat → Nat} {O A B : Nat → Int32} {l lo hi p q : Nat}
theorem G_w {l' : Nat} (h : G_ T O A B l lo hi p q) (hl : l' ≤ l) : G_ T O A B l' lo hi p q := (gc_G T O A B).2.2.2.2.2.2.2.2 l l' lo hi p q hl h
/-- a range is not empty, neither is its code; both ends are in order -/
theorem G_lt (h : G_ T O A B l lo hi p q) : lo < hi ∧ p < q := by
  refine h (fun _ lo hi p q => lo < hi ∧ p < q) ⟨?_, ?_, ?_, ?_, ?_, ?_, ?_, ?_, ?_⟩
  · intros; omega
  · intros; omega
  · intros; omega
  · intros; omega
  · intros; omega
  · intros; omega
  · intros; omega
  · intros; omega
  · intros; assumption
/-- only the code between counts -/
theorem G_f {O' A' B' : Nat → Int32} (h : G_ T O A B l lo hi p q) (hf : ∀ k, p ≤ k → k < q → O' k = O k ∧ A' k = A k ∧ B' k = B k) : G_ T O' A' B' l lo hi p q := by
  have key := h (fun l lo hi p q => p < q ∧ ((∀ k, p ≤ k → k < q → O' k = O k ∧ A' k = A k ∧ B' k = B k) → G_ T O' A' B' l lo hi p q)) ⟨?_, ?_, ?_, ?_, ?_, ?_, ?_, ?_, ?_⟩
  · exact key.2 hf
  · intro lo p h1 h2 h3
    refine ⟨by omega, fun f => ?_⟩
    have g := f p (by omega) (by omega)
    exact (gc_G T O' A' B').1 lo p h1 (by rw [g.1, h2]) (by rw [g.2.1, h3])
  · intro lo p v h1 h2 h3 h4
    refine ⟨by omega, fun f => ?_⟩
    have g := f p (by omega) (by omega)
    exact (gc_G T O' A' B').2.1 lo p v h1 h2 (by rw [g.1, h3]) (by rw [g.2.1, h4])
  · intro lo hi p q h1 h2 h3
    exact ⟨h2.1, fun f => (gc_G T O' A' B').2.2.1 lo hi p q h1 (h2.2 f) h3⟩
  · intro lo hi p q h1 h2 h3 h4 h5 h6
    refine ⟨by omega, fun f => ?_⟩
    have g := f q (by omega) (by omega)
    exact (gc_G T O' A' B').2.2.2.1 lo hi p q h1 h2 (h3.2 (fun k k1 k2 => f k k1 (by omega))) h4 (by rw [g.1, h5]) (by rw [g.2.2, h6])
  · intro lo m hi p p1 p2 h1 h2 h3 h4 h5
    refine ⟨by omega, fun f => ?_⟩
    have g := f p2 (by omega) (by omega)
    exact (gc_G T O' A' B').2.2.2.2.1 lo m hi p p1 p2 h1 (h2.2 (fun k k1 k2 => f k k1 (by omega))) (h3.2 (fun k k1 k2 => f k (by omega) (by omega))) (by rw [g.1, h4]) (by rw [g.2.2, h5])
  · intro lo hi p q h1 h2 h3
    refine ⟨by omega, fun f => ?_⟩
    have g := f q (by omega) (by omega)
    exact (gc_G T O' A' B').2.2.2.2.2.1 lo hi p q h1 (h2.2 (fun k k1 k2 => f k k1 (by omega))) (by rw [g.1, h3])
  · intro lo m c hi p p1 p2 p3 h1 h2 h3 h4 h5 h6 h7 h8 h9
    refine ⟨by omega, fun f => ?_⟩
    have g1 := f p1 (by omega) (by omega)
    have g2 := f p2 (by omega) (by omega)
    exact (gc_G T O' A' B').2.2.2.2.2.2.1 lo m c hi p p1 p2 p3 h1 h2 (h3.2 (fun k k1 k2 => f k k1 (by omega))) (h4.2 (fun k k1 k2 => f k (by omega) (by omega))) (h5.2 (fun k k1 k2 => f k (by omega) (by omega))) (by rw [g1.1, h6]) (by rw [g1.2.1, h7]) (by rw [g2.1, h8]) (by rw [g2.2.1, h9])
  · intro lo hi p q h1 h2 h3 h4 h5
    refine ⟨by omega, fun f => ?_⟩
    have g := f q (by omega) (by omega)
    exact (gc_G T O' A' B').2.2.2.2.2.2.2.1 lo hi p q h1 h2 (h3.2 (fun k k1 k2 => f k k1 (by omega))) (by rw [g.1, h4]) (by rw [g.2.1, h5])
  · intro l l' lo hi p q h1 h2
    exact ⟨h2.1, fun f => G_w (h2.2 f) h1⟩
end
/-! what the reference's scan for the cut makes of a token -/
def on_ (t : Nat) : Prop := t < 8 ∨ t = 17 ∨ 999 < t
/-- how loosely a token joins, if an operand is ahead of it -/
def lo_ (t : Nat) : Nat := if t = 21 then 1 else if t = 20 then 2 else if t = 10 then 3 else if t = 11 then 3 else if t = 12 then 4 else if t = 13 then 4 else if t = 14 then 4 else if t = 15 then 5 else 9
/-- .. the least of it in a range of a level -/
def la_ (l : Nat) : Nat := if l < 3 then 1 else if l = 3 then 2 else if l = 4 then 3 else if l = 5 then 4 else if l < 8 then 5 else 9
theorem la_mono {l l' : Nat} (h : l' ≤ l) : la_ l' ≤ la_ l := by
  unfold la_
  repeat' split
  all_goals omega
theorem lo_le (t : Nat) : lo_ t ≤ 9 ∧ 1 ≤ lo_ t := by
  unfold lo_
  repeat' split
  all_goals omega
theorem bo_la {t : Nat} (h : bo_ t) : lo_ t = la_ (lv_ t) ∧ la_ (lv_ t) ≤ la_ (ll_ t) ∧ (lo_ t < la_ (rl_ t) ∨ (lo_ t = 5 ∧ la_ (rl_ t) = 5)) ∧ lo_ t < 9 ∧ 1 < lo_ t ∧ (t = 15 ∨ lo_ t ≠ 5) := by
  rcases h with e | e | e | e | e | e | e <;> subst e <;> decide
end
section
/-! the reference's scan for the place where a range is cut -/
theorem on_n {t : Nat} (h : bo_ t ∨ t = 11 ∨ t = 16 ∨ t = 18 ∨ t = 19 ∨ t = 21 ∨ t = 22) : ¬ on_ t := by
  unfold bo_ at h
  unfold on_
  omega
def tn_ (T : Nat → Nat) (N : Nat) (bL : Nat → Int32) : Prop := N ≤ 40 ∧ ∀ i, i < N → bL i = nI (T i) ∧ T i < 2000
section
variable {gP gT gW gJ gV gE : Int32} {bD bG bP bW bL bT bO bH : Nat → Int32}
variable {pi : Int32 → Prop} {T : Nat → Nat} {N : Nat}
theorem y_57 {t : Nat} (ht : t < 2000) (K : pi (nI (lo_ t))) : wY_looseness_57 pi (nI t) 1 gP gT gW gJ gV gE bD bG bP bW bL bT bO bH := by
  unfold lo_ at K
  refine br_f (by decide) (pk_eq t 21 (fun z => ?_) (fun z1 => pk_eq t 20 (fun z => ?_) (fun z2 => pk_eq t 10 (fun z => ?_) (fun z3 => pk_eq t 11 (fun z => ?_) (fun z4 => ?_)))))
  · subst z; exact K
  · subst z; exact K
  · subst z; exact K
  · subst z; exact K
  · rw [if_neg z1, if_neg z2, if_neg z3, if_neg z4] at K
    have g : ¬ (t = 12 ∨ t = 13 ∨ t = 14) → wY_looseness_119 pi (nI t) gP gT gW gJ gV gE bD bG bP bW bL bT bO bH := by
      intro q
      rw [if_neg (by omega), if_neg (by omega), if_neg (by omega)] at K
      refine pk_eq t 15 (fun z => ?_) (fun z => ?_)
      · rw [if_pos z] at K; exact K
      · rw [if_neg z] at K; exact K
    refine pk_le t 11 (fun z => g (by omega)) (fun z => pk_le 15 t (fun y => g (by omega)) (fun y => ?_))
    have : t = 12 ∨ t = 13 ∨ t = 14 := by omega
    rcases this with e | e | e <;> subst e <;> exact K
theorem y_loose {i lo : Nat} (hT : tn_ T N bL) (hi : i < N) (K : (lo < i → on_ (T (i - 1)) → pi (nI (lo_ (T i)))) ∧ (¬ (lo < i ∧ on_ (T (i - 1))) → pi 9)) (hl : lo < 100) :
    wpY_looseness pi (gP, gT, gW, gJ, gV, gE, bD, bG, bP, bW, bL, bT, bO, bH) (nI i) (nI lo) := by
  have h40 := hT.1
  obtain ⟨e1, e2⟩ := hT.2 i hi
  refine ⟨pk_in i 40 (by omega), nm_r (e' := nI (T i)) (by rw [nI_clamp (by omega), e1]) (pk_le i lo (fun z => br_t rfl (K.2 (by omega))) (fun z => ?_))⟩
  obtain ⟨f1, f2⟩ := hT.2 (i - 1) (by omega)
  have i1 : nI i - 1 = nI (i - 1) := by
    obtain ⟨j, rfl⟩ : ∃ j, i = j + 1 := ⟨i - 1, by omega⟩
    exact nI_pred j
  have i2 : vp_in (nI i - 1) 40 := pk_in (i - 1) 40 (by omega) i1
  have r1 : bL (nI i - 1).toNatClampNeg = nI (T (i - 1)) := by rw [i1, nI_clamp (by omega), f1]
  refine ⟨i2, pk_lt (T (i - 1)) 8 (fun y => y_57 e2 (K.1 z (Or.inl y))) (fun y => ⟨i2, pk_eq (T (i - 1)) 17 (fun x => y_57 e2 (K.1 z (Or.inr (Or.inl x)))) (fun x => ⟨i2, pk_le (T (i - 1)) 999 (fun w => br_t rfl (K.2 ?_)) (fun w => y_57 e2 (K.1 z (Or.inr (Or.inr w)))) r1 rfl (by omega)⟩) r1 rfl (by omega)⟩) r1 rfl (by omega)⟩
  unfold on_
  omega
theorem y_83 {J : Int32 → Int32 → Int32 → Int32 → Prop} {x1 x2 x3 z0 : Int32} {b ls i l : Nat} (hls : ls ≤ 9) (hl : l ≤ 9)
    (K1 : (l < ls ∨ (l = ls ∧ l < 9 ∧ z0 = 0)) → J x3 (nI i) (nI l) (nI (i + 1))) (K2 : ¬ (l < ls ∨ (l = ls ∧ l < 9 ∧ z0 = 0)) → J x3 (nI b) (nI ls) (nI (i + 1))) :
    wY_cut_83 pi J x1 x2 x3 (nI b) (nI ls) (nI i) (nI l) z0 gP gT gW gJ gV gE bD bG bP bW bL bT bO bH := by
  refine pk_lt l ls (fun z => nm_r (nI_1 i) (K1 (Or.inl z))) (fun z => pk_eq l ls (fun y => pk_le 9 l (fun x => nm_r (nI_1 i) (K2 (by omega))) (fun x => br_c (fun w => nm_r (nI_1 i) (K1 (Or.inr ⟨y, x, w⟩))) (fun w => nm_r (nI_1 i) (K2 ?_)))) (fun y => nm_r (nI_1 i) (K2 (by omega))))
  intro q
  rcases q with q | q
  · omega
  · exact w q.2.2
theorem y_64 {J : Int32 → Int32 → Int32 → Int32 → Prop} {x1 x2 x3 : Int32} {b ls i l : Nat} (hls : ls ≤ 9) (hl : l ≤ 9)
    (K1 : (l < ls ∨ (l = ls ∧ l < 9 ∧ l ≠ 1 ∧ l ≠ 5)) → J x3 (nI i) (nI l) (nI (i + 1))) (K2 : ¬ (l < ls ∨ (l = ls ∧ l < 9 ∧ l ≠ 1 ∧ l ≠ 5)) → J x3 (nI b) (nI ls) (nI (i + 1))) :
    wY_cut_64 pi J x1 x2 x3 (nI b) (nI ls) (nI i) (nI l) gP gT gW gJ gV gE bD bG bP bW bL bT bO bH := by
  refine pk_eq l 1 (fun z => y_83 hls hl (fun q => K1 ?_) (fun q => K2 ?_)) (fun z => pk_eq l 5 (fun y => y_83 hls hl (fun q => K1 ?_) (fun q => K2 ?_)) (fun y => y_83 hls hl (fun q => K1 ?_) (fun q => K2 ?_)))
  · rcases q with q | q
    · exact Or.inl q
    · exact absurd q.2.2 (by decide)
  · rintro (w | w)
    · exact q (Or.inl w)
    · omega
  · rcases q with q | q
    · exact Or.inl q
    · exact absurd q.2.2 (by decide)
  · rintro (w | w)
    · exact q (Or.inl w)
    · omega
  · rcases q with q | q
    · exact Or.inl q
    · exact Or.inr ⟨q.1, q.2.1, z, y⟩
  · rintro (w | w)
    · exact q (Or.inl w)
    · exact q (Or.inr ⟨w.1, w.2.1, rfl⟩)
/-- one token: D the depth ahead of it, E behind it -/
theorem y_cs {lo hi i D E b ls n : Nat} (hT : tn_ T N bL) (hi1 : i < hi) (hi2 : hi ≤ N) (hls : ls ≤ 9) (hl : lo < 100) (hD : D < 100)
    (hE : (T i = 16 ∧ E = D + 1) ∨ (T i = 17 ∧ D = E + 1) ∨ (T i ≠ 16 ∧ T i ≠ 17 ∧ E = D))
    (K1 : E = 0 → lo < i → on_ (T (i - 1)) → (lo_ (T i) < ls ∨ (lo_ (T i) = ls ∧ lo_ (T i) < 9 ∧ lo_ (T i) ≠ 1 ∧ lo_ (T i) ≠ 5)) → wY_cut_12 pi (nI lo) (nI hi) gP gT gW gJ gV gE bD bG bP bW bL bT bO bH n 0 (nI i) (nI (lo_ (T i))) (nI (i + 1)))
    (K2 : ¬ (E = 0 ∧ lo < i ∧ on_ (T (i - 1)) ∧ (lo_ (T i) < ls ∨ (lo_ (T i) = ls ∧ lo_ (T i) < 9 ∧ lo_ (T i) ≠ 1 ∧ lo_ (T i) ≠ 5))) → wY_cut_12 pi (nI lo) (nI hi) gP gT gW gJ gV gE bD bG bP bW bL bT bO bH n (nI E) (nI b) (nI ls) (nI (i + 1))) :
    wY_cut_12 pi (nI lo) (nI hi) gP gT gW gJ gV gE bD bG bP bW bL bT bO bH (n + 1) (nI D) (nI b) (nI ls) (nI i) := by
  have h40 := hT.1
  obtain ⟨e1, e2⟩ := hT.2 i (by omega)
  have i2 : vp_in (nI i) 40 := pk_in i 40 (by omega)
  have r1 : bL (nI i).toNatClampNeg = nI (T i) := by rw [nI_clamp (by omega), e1]
  have h64 : ∀ l, l ≤ 9 → (E ≠ 0 → l = 9) → (l = 9 ∨ (lo < i ∧ on_ (T (i - 1)) ∧ l = lo_ (T i))) → (¬ (lo < i ∧ on_ (T (i - 1))) → l = 9) → (E = 0 → lo < i → on_ (T (i - 1)) → l = lo_ (T i)) →
      wY_cut_64 pi (wY_cut_12 pi (nI lo) (nI hi) gP gT gW gJ gV gE bD bG bP bW bL bT bO bH n) (nI lo) (nI hi) (nI E) (nI b) (nI ls) (nI i) (nI l) gP gT gW gJ gV gE bD bG bP bW bL bT bO bH := by
    intro l l1 l2 l3 l4 l5
    refine y_64 hls l1 (fun q => ?_) (fun q => K2 (fun w => ?_))
    · have l9 : l < 9 := by omega
      have hE0 : E = 0 := by
        rcases Nat.eq_zero_or_pos E with z | z
        · exact z
        · have := l2 (by omega); omega
      rcases l3 with z | ⟨z1, z2, z3⟩
      · omega
      · subst z3
        subst hE0
        exact K1 rfl z1 z2 q
    · rw [← l5 w.1 w.2.1 w.2.2.1] at w
      exact q w.2.2.2
  have h48 : wY_cut_48 pi (wY_cut_12 pi (nI lo) (nI hi) gP gT gW gJ gV gE bD bG bP bW bL bT bO bH n) (nI lo) (nI hi) (nI E) (nI b) (nI ls) (nI i) gP gT gW gJ gV gE bD bG bP bW bL bT bO bH := by
    refine pk_eq E 0 (fun z => y_loose hT (by omega) ⟨fun q1 q2 => h64 _ (lo_le _).1 (fun w => absurd z w) (Or.inr ⟨q1, q2, rfl⟩) (fun w => absurd ⟨q1, q2⟩ w) (fun _ _ _ => rfl), fun q => h64 9 (by decide) (fun _ => rfl) (Or.inl rfl) (fun _ => rfl) (fun _ w1 w2 => absurd ⟨w1, w2⟩ q)⟩ hl) (fun z => h64 9 (by decide) (fun _ => rfl) (Or.inl rfl) (fun _ => rfl) (fun w => absurd w z)) rfl rfl (by omega)
  refine pk_le hi i (fun z => by omega) (fun _ => ⟨i2, ?_⟩)
  rcases hE with ⟨h1, h2⟩ | ⟨h1, h2⟩ | ⟨h1, h2, h3⟩
  · refine pk_eq (T i) 16 (fun _ => nm_r (nI_1 D) ⟨i2, pk_eq (T i) 17 (fun z => by omega) (fun _ => ?_) r1 rfl (by omega)⟩) (fun z => absurd h1 z) r1 rfl (by omega)
    rw [← h2]; exact h48
  · refine pk_eq (T i) 16 (fun z => by omega) (fun _ => ⟨i2, pk_eq (T i) 17 (fun _ => nm_r (e' := nI E) (by rw [h2]; exact pk_m1 E) h48) (fun z => absurd h1 z) r1 rfl (by omega)⟩) r1 rfl (by omega)
  · refine pk_eq (T i) 16 (fun z => absurd z h1) (fun _ => ⟨i2, pk_eq (T i) 17 (fun z => absurd z h2) (fun _ => ?_) r1 rfl (by omega)⟩) r1 rfl (by omega)
    rw [← h3]; exact h48
/-- .. one that joins nothing here -/
theorem y_c9 {lo hi i D E b ls n : Nat} (hT : tn_ T N bL) (hi1 : i < hi) (hi2 : hi ≤ N) (hls : ls ≤ 9) (hl : lo < 100) (hD : D < 100)
    (hE : (T i = 16 ∧ E = D + 1) ∨ (T i = 17 ∧ D = E + 1) ∨ (T i ≠ 16 ∧ T i ≠ 17 ∧ E = D)) (h9 : E ≠ 0 ∨ lo_ (T i) = 9 ∨ ¬ (lo < i ∧ on_ (T (i - 1))))
    (K : wY_cut_12 pi (nI lo) (nI hi) gP gT gW gJ gV gE bD bG bP bW bL bT bO bH n (nI E) (nI b) (nI ls) (nI (i + 1))) :
    wY_cut_12 pi (nI lo) (nI hi) gP gT gW gJ gV gE bD bG bP bW bL bT bO bH (n + 1) (nI D) (nI b) (nI ls) (nI i) := by
  refine y_cs hT hi1 hi2 hls hl hD hE (fun z1 z2 z3 z4 => ?_) (fun _ => K)
  rcases h9 with q | q | q
  · exact absurd z1 q
  · omega
  · exact absurd ⟨z2, z3⟩ q
end
end
section
/-! the scan over a range of the grammar -/
def sp_ (T : Nat → Nat) (l lo hi D b ls b' ls' : Nat) : Prop :=
  ls' ≤ 9 ∧ (0 < D → b' = b ∧ ls' = ls) ∧ ((ls < la_ l ∨ (ls = la_ l ∧ (ls = 1 ∨ ls = 5))) → b' = b ∧ ls' = ls) ∧ min ls (la_ l) ≤ ls' ∧ ((b' = b ∧ ls' = ls) ∨ (lo_ (T b') = ls' ∧ ls' < 9 ∧ lo ≤ b' ∧ b' < hi))
def sk_ (T : Nat → Nat) (N : Nat) (W : Nat → Nat → Nat → Nat → Nat → Nat → Nat → Prop) (l lo hi : Nat) : Prop :=
  lo < hi ∧ on_ (T (hi - 1)) ∧ ∀ lo0 hi0, (lo = lo0 ∨ (lo0 < lo ∧ ¬ on_ (T (lo - 1)))) → hi ≤ hi0 → hi0 ≤ N → ∀ D b ls, D + (hi - lo) < 100 → ls ≤ 9 →
    ∃ b' ls', sp_ T l lo hi D b ls b' ls' ∧ ∀ n, W lo0 hi0 n D b' ls' hi → W lo0 hi0 (n + (hi - lo)) D b ls lo
def s9_ (T : Nat → Nat) (N : Nat) (W : Nat → Nat → Nat → Nat → Nat → Nat → Nat → Prop) : Prop :=
  ∀ lo0 hi0 i D E b ls n, lo0 < 100 → i < hi0 → hi0 ≤ N → ls ≤ 9 → D < 100 → ((T i = 16 ∧ E = D + 1) ∨ (T i = 17 ∧ D = E + 1) ∨ (T i ≠ 16 ∧ T i ≠ 17 ∧ E = D)) → (E ≠ 0 ∨ lo_ (T i) = 9 ∨ ¬ (lo0 < i ∧ on_ (T (i - 1)))) →
    W lo0 hi0 n E b ls (i + 1) → W lo0 hi0 (n + 1) D b ls i
def so9_ (T : Nat → Nat) (N : Nat) (W : Nat → Nat → Nat → Nat → Nat → Nat → Nat → Prop) : Prop :=
  ∀ lo0 hi0 i b ls n, lo0 < i → i < hi0 → hi0 ≤ N → ls ≤ 9 → T i ≠ 16 → T i ≠ 17 → on_ (T (i - 1)) →
    ((lo_ (T i) < ls ∨ (lo_ (T i) = ls ∧ lo_ (T i) < 9 ∧ lo_ (T i) ≠ 1 ∧ lo_ (T i) ≠ 5)) → W lo0 hi0 n 0 i (lo_ (T i)) (i + 1)) →
    (¬ (lo_ (T i) < ls ∨ (lo_ (T i) = ls ∧ lo_ (T i) < 9 ∧ lo_ (T i) ≠ 1 ∧ lo_ (T i) ≠ 5)) → W lo0 hi0 n 0 b ls (i + 1)) → W lo0 hi0 (n + 1) 0 b ls i
section
variable {T : Nat → Nat} {O A B : Nat → Int32} {N : Nat} {W : Nat → Nat → Nat → Nat → Nat → Nat → Nat → Prop} {l lo hi p q m : Nat}
theorem sp_r {D b ls : Nat} (h : ls ≤ 9) : sp_ T l lo hi D b ls b ls := ⟨h, fun _ => ⟨rfl, rfl⟩, fun _ => ⟨rfl, rfl⟩, Nat.min_le_left _ _, Or.inl ⟨rfl, rfl⟩⟩
/-- a token that joins nothing, ahead of a range -/
theorem sk_1 (hN : N ≤ 40) (h9 : s9_ T N W) (h : sk_ T N W l (lo + 1) hi) (h1 : T lo ≠ 16) (h2 : T lo ≠ 17) (h3 : lo_ (T lo) = 9 ∨ T lo = 11) (h4 : ¬ on_ (T lo)) : sk_ T N W l lo hi := by
  obtain ⟨a1, a2, a3⟩ := h
  refine ⟨by omega, a2, fun lo0 hi0 hlo hh hN0 D b ls hD hls => ?_⟩
  obtain ⟨b', ls', s, k⟩ := a3 lo0 hi0 (Or.inr ⟨by omega, by rw [Nat.add_sub_cancel]; exact h4⟩) hh hN0 D b ls (by omega) hls
  refine ⟨b', ls', ⟨s.1, s.2.1, s.2.2.1, s.2.2.2.1, ?_⟩, fun n w => ?_⟩
  · rcases s.2.2.2.2 with y | y
    · exact Or.inl y
    · exact Or.inr ⟨y.1, y.2.1, by omega, y.2.2.2⟩
  · have := h9 lo0 hi0 lo D D b ls _ (by omega) (by omega) hN0 hls (by omega) (Or.inr (Or.inr ⟨h1, h2, rfl⟩)) (Or.inr (by
      rcases h3 with y | y
      · exact Or.inl y
      · rcases hlo with x | x
        · exact Or.inr (fun w => by omega)
        · exact Or.inr (fun w => x.2 w.2))) (k n w)
    rw [show n + (hi - lo) = n + (hi - (lo + 1)) + 1 by omega]
    exact this
/-- a range in brackets -/
theorem sk_p (hN : N ≤ 40) (h9 : s9_ T N W) (h : sk_ T N W l (lo + 1) hi) (h1 : T lo = 16) (h2 : T hi = 17) : sk_ T N W 8 lo (hi + 1) := by
  obtain ⟨a1, a2, a3⟩ := h
  refine ⟨by omega, by rw [Nat.add_sub_cancel, h2]; exact Or.inr (Or.inl rfl), fun lo0 hi0 hlo hh hN0 D b ls hD hls => ⟨b, ls, sp_r hls, fun n w => ?_⟩⟩
  obtain ⟨b', ls', s, k⟩ := a3 lo0 hi0 (Or.inr ⟨by omega, by rw [Nat.add_sub_cancel, h1]; unfold on_; omega⟩) (by omega) hN0 (D + 1) b ls (by omega) hls
  obtain ⟨e1, e2⟩ := s.2.1 (by omega)
  subst e1
  subst e2
  have w1 := h9 lo0 hi0 hi (D + 1) D b' ls' n (by omega) (by omega) hN0 hls (by omega) (Or.inr (Or.inl ⟨h2, rfl⟩)) (Or.inr (Or.inl (by rw [h2]; rfl))) w
  have w2 := h9 lo0 hi0 lo D (D + 1) b' ls' _ (by omega) (by omega) hN0 hls (by omega) (Or.inl ⟨h1, rfl⟩) (Or.inl (by omega)) (k _ w1)
  rw [show n + (hi + 1 - lo) = n + 1 + (hi - (lo + 1)) + 1 by omega]
  exact w2
/-- two ranges with a joining token between them -/
theorem sk_2 {l1 l2 : Nat} (hN : N ≤ 40) (h9 : s9_ T N W) (ho : so9_ T N W) (hl : sk_ T N W l1 lo m) (hr : sk_ T N W l2 (m + 1) hi) (h1 : T m ≠ 16) (h2 : T m ≠ 17) (h3 : ¬ on_ (T m))
    (g1 : la_ l ≤ lo_ (T m)) (g2 : la_ l ≤ la_ l1) (g3 : la_ l ≤ la_ l2) (g4 : lo_ (T m) ≠ la_ l ∨ la_ l < la_ l2 ∨ (la_ l = 1 ∨ la_ l = 5)) : sk_ T N W l lo hi := by
  obtain ⟨a1, a2, a3⟩ := hl
  obtain ⟨c1, c2, c3⟩ := hr
  refine ⟨by omega, c2, fun lo0 hi0 hlo hh hN0 D b ls hD hls => ?_⟩
  obtain ⟨b1, ls1, s1, k1⟩ := a3 lo0 hi0 hlo (by omega) hN0 D b ls (by omega) hls
  have hlo' : lo0 < m := by omega
  have hl9 := lo_le (T m)
  -- what stands behind the joining token
  have mid : ∃ b2 ls2, ls2 ≤ 9 ∧ (0 < D → b2 = b1 ∧ ls2 = ls1) ∧ ((b2 = b1 ∧ ls2 = ls1 ∧ (D = 0 → ¬ (lo_ (T m) < ls1 ∨ (lo_ (T m) = ls1 ∧ lo_ (T m) < 9 ∧ lo_ (T m) ≠ 1 ∧ lo_ (T m) ≠ 5)))) ∨ (b2 = m ∧ ls2 = lo_ (T m) ∧ (lo_ (T m) < ls1 ∨ (lo_ (T m) = ls1 ∧ lo_ (T m) < 9 ∧ lo_ (T m) ≠ 1 ∧ lo_ (T m) ≠ 5)))) ∧ ∀ n, W lo0 hi0 n D b2 ls2 (m + 1) → W lo0 hi0 (n + 1) D b1 ls1 m := by
    rcases Nat.eq_zero_or_pos D with z | z
    · subst z
      by_cases c : lo_ (T m) < ls1 ∨ (lo_ (T m) = ls1 ∧ lo_ (T m) < 9 ∧ lo_ (T m) ≠ 1 ∧ lo_ (T m) ≠ 5)
      · exact ⟨m, lo_ (T m), hl9.1, fun w => by omega, Or.inr ⟨rfl, rfl, c⟩, fun n w => ho lo0 hi0 m b1 ls1 n hlo' (by omega) hN0 s1.1 h1 h2 a2 (fun _ => w) (fun q => absurd c q)⟩
      · exact ⟨b1, ls1, s1.1, fun w => by omega, Or.inl ⟨rfl, rfl, fun _ => c⟩, fun n w => ho lo0 hi0 m b1 ls1 n hlo' (by omega) hN0 s1.1 h1 h2 a2 (fun q => absurd q c) (fun _ => w)⟩
    · exact ⟨b1, ls1, s1.1, fun _ => ⟨rfl, rfl⟩, Or.inl ⟨rfl, rfl, fun w => by omega⟩, fun n w => h9 lo0 hi0 m D D b1 ls1 n (by omega) (by omega) hN0 s1.1 (by omega) (Or.inr (Or.inr ⟨h1, h2, rfl⟩)) (Or.inl (by omega)) w⟩
  obtain ⟨b2, ls2, t1, t2, t3, k2⟩ := mid
  obtain ⟨b3, ls3, s3, k3⟩ := c3 lo0 hi0 (Or.inr ⟨by omega, by rw [Nat.add_sub_cancel]; exact h3⟩) hh hN0 D b2 ls2 (by omega) t1
  refine ⟨b3, ls3, ⟨s3.1, fun z => ?_, fun z => ?_, ?_, ?_⟩, fun n w => ?_⟩
  · have e1 := s1.2.1 z
    have e2 := t2 z
    have e3 := s3.2.1 z
    omega
  · obtain ⟨e1, e2⟩ := s1.2.2.1 (by omega)
    have e3 : b2 = b1 ∧ ls2 = ls1 := by omega
    have e4 := s3.2.2.1 (by omega)
    omega
  · have e1 := s1.2.2.2.1
    have e3 := s3.2.2.2.1
    omega
  · rcases s3.2.2.2.2 with y | y
    · rcases t3 with x | x
      · rcases s1.2.2.2.2 with w | w
        · left; omega
        · right
          rw [y.1, x.1]
          exact ⟨by omega, by omega, by omega, by omega⟩
      · by_cases c : b3 = b ∧ ls3 = ls
        · exact Or.inl c
        · right
          rw [y.1, x.1]
          have := s1.1
          exact ⟨by omega, by omega, by omega, by omega⟩
    · right
      exact ⟨y.1, y.2.1, by omega, y.2.2.2⟩
  · have w3 := k1 _ (k2 _ (k3 n w))
    rw [show n + (hi - lo) = n + (hi - (m + 1)) + 1 + (m - lo) by omega]
    exact w3
theorem sk_G (hN : N ≤ 40) (h9 : s9_ T N W) (ho : so9_ T N W) (h : G_ T O A B l lo hi p q) : sk_ T N W l lo hi := by
  refine h (fun l lo hi p q => sk_ T N W l lo hi) ⟨?_, ?_, ?_, ?_, ?_, ?_, ?_, ?_, ?_⟩
  · intro lo p h1 h2 h3
    refine ⟨by omega, by rw [Nat.add_sub_cancel]; exact Or.inl h1, fun lo0 hi0 hlo hh hN0 D b ls hD hls => ⟨b, ls, sp_r hls, fun n w => ?_⟩⟩
    rw [show n + (lo + 1 - lo) = n + 1 by omega]
    exact h9 lo0 hi0 lo D D b ls n (by omega) (by omega) hN0 hls (by omega) (Or.inr (Or.inr ⟨by omega, by omega, rfl⟩)) (Or.inr (Or.inl (by
      unfold lo_
      repeat' split
      all_goals omega))) w
  · intro lo p v h1 h2 h3 h4
    refine ⟨by omega, by rw [Nat.add_sub_cancel]; exact Or.inr (Or.inr (by omega)), fun lo0 hi0 hlo hh hN0 D b ls hD hls => ⟨b, ls, sp_r hls, fun n w => ?_⟩⟩
    rw [show n + (lo + 1 - lo) = n + 1 by omega]
    exact h9 lo0 hi0 lo D D b ls n (by omega) (by omega) hN0 hls (by omega) (Or.inr (Or.inr ⟨by omega, by omega, rfl⟩)) (Or.inr (Or.inl (by
      unfold lo_
      repeat' split
      all_goals omega))) w
  · intro lo hi p q h1 h2 h3
    exact sk_p hN h9 h2 h1 h3
  · intro lo hi p q h1 h2 h3 h4 h5 h6
    refine sk_1 hN h9 (sk_p (lo := lo + 1) hN h9 h3 h2 h4) (by omega) (by omega) (Or.inl (by rw [h1]; rfl)) (by rw [h1]; unfold on_; omega)
  · intro lo m hi p p1 p2 h1 h2 h3 h4 h5
    obtain ⟨g1, g2, g3, g4, g5, g6⟩ := bo_la h1
    exact sk_2 hN h9 ho h2 h3 (by unfold bo_ at h1; omega) (by unfold bo_ at h1; omega) (on_n (Or.inl h1)) (by omega) g2 (by omega) (by omega)
  · intro lo hi p q h1 h2 h3
    exact sk_1 hN h9 h2 (by omega) (by omega) (Or.inr h1) (by rw [h1]; unfold on_; omega)
  · intro lo m c hi p p1 p2 p3 h1 h2 h3 h4 h5 h6 h7 h8 h9'
    have e1 : la_ 0 = 1 := rfl
    have e3 : la_ 3 = 2 := rfl
    have er : sk_ T N W 0 (m + 1) hi := sk_2 hN h9 ho h4 h5 (by omega) (by omega) (by rw [h2]; unfold on_; omega) (by rw [h2]; decide) (Nat.le_refl _) (Nat.le_refl _) (Or.inr (Or.inr (Or.inl e1)))
    exact sk_2 hN h9 ho h3 er (by omega) (by omega) (by rw [h1]; unfold on_; omega) (by rw [h1]; decide) (by decide) (Nat.le_refl _) (Or.inr (Or.inr (Or.inl e1)))
  · intro lo hi p q h1 h2 h3 h4 h5
    have g1 : sk_ T N W 0 (lo + 1) hi := sk_1 hN h9 h3 (by omega) (by omega) (Or.inl (by rw [h2]; rfl)) (by rw [h2]; unfold on_; omega)
    -- the register ahead of the sign: an operand, so it is taken by itself
    obtain ⟨a1, a2, a3⟩ := h3
    refine ⟨by omega, a2, fun lo0 hi0 hlo hh hN0 D b ls hD hls => ?_⟩
    obtain ⟨b', ls', s, k⟩ := a3 lo0 hi0 (Or.inr ⟨by omega, by rw [show lo + 2 - 1 = lo + 1 by omega, h2]; unfold on_; omega⟩) hh hN0 D b ls (by omega) hls
    refine ⟨b', ls', ⟨s.1, s.2.1, s.2.2.1, s.2.2.2.1, ?_⟩, fun n w => ?_⟩
    · rcases s.2.2.2.2 with y | y
      · exact Or.inl y
      · exact Or.inr ⟨y.1, y.2.1, by omega, y.2.2.2⟩
    · have w1 := h9 lo0 hi0 (lo + 1) D D b ls _ (by omega) (by omega) hN0 hls (by omega) (Or.inr (Or.inr ⟨by omega, by omega, rfl⟩)) (Or.inr (Or.inl (by rw [h2]; rfl))) (k n w)
      have w2 := h9 lo0 hi0 lo D D b ls _ (by omega) (by omega) hN0 hls (by omega) (Or.inr (Or.inr ⟨by omega, by omega, rfl⟩)) (Or.inr (Or.inl (by
        unfold lo_
        repeat' split
        all_goals omega))) w1
      rw [show n + (hi - lo) = n + (hi - (lo + 2)) + 1 + 1 by omega]
      exact w2
  · intro l l' lo hi p q h1 h2
    obtain ⟨a1, a2, a3⟩ := h2
    have hm := la_mono h1
    refine ⟨a1, a2, fun lo0 hi0 hlo hh hN0 D b ls hD hls => ?_⟩
    obtain ⟨b', ls', s, k⟩ := a3 lo0 hi0 hlo hh hN0 D b ls hD hls
    refine ⟨b', ls', ⟨s.1, s.2.1, fun z => s.2.2.1 (by omega), ?_, s.2.2.2.2⟩, k⟩
    have := s.2.2.2.1
    omega
end
end
section
/-! where the reference cuts; the colon of a question mark -/
section
variable {T : Nat → Nat} {O A B : Nat → Int32} {N : Nat} {W : Nat → Nat → Nat → Nat → Nat → Nat → Nat → Prop} {l lo hi p q m : Nat}
theorem ct_2 {l1 l2 : Nat} (hN : N ≤ 40) (h9 : s9_ T N W) (ho : so9_ T N W) (hl : sk_ T N W l1 lo m) (hr : sk_ T N W l2 (m + 1) hi) (hh : hi ≤ N) (h1 : T m ≠ 16) (h2 : T m ≠ 17) (h3 : ¬ on_ (T m))
    (g1 : lo_ (T m) < 9) (g2 : lo_ (T m) < la_ l1 ∨ (lo_ (T m) = la_ l1 ∧ lo_ (T m) ≠ 1 ∧ lo_ (T m) ≠ 5)) (g3 : lo_ (T m) < la_ l2 ∨ (lo_ (T m) = la_ l2 ∧ (lo_ (T m) = 1 ∨ lo_ (T m) = 5))) (n : Nat) (w : W lo hi n 0 m (lo_ (T m)) hi) :
    W lo hi (n + (hi - lo)) 0 lo 9 lo := by
  obtain ⟨a1, a2, a3⟩ := hl
  obtain ⟨c1, c2, c3⟩ := hr
  obtain ⟨b1, ls1, s1, k1⟩ := a3 lo hi (Or.inl rfl) (by omega) hh 0 lo 9 (by omega) (by omega)
  obtain ⟨b3, ls3, s3, k3⟩ := c3 lo hi (Or.inr ⟨by omega, by rw [Nat.add_sub_cancel]; exact h3⟩) (Nat.le_refl _) hh 0 m (lo_ (T m)) (by omega) (by omega)
  obtain ⟨e1, e2⟩ := s3.2.2.1 g3
  subst e1
  rw [e2] at k3
  have w1 := k3 n w
  have hc : lo_ (T b3) < ls1 ∨ (lo_ (T b3) = ls1 ∧ lo_ (T b3) < 9 ∧ lo_ (T b3) ≠ 1 ∧ lo_ (T b3) ≠ 5) := by
    have := s1.2.2.2.1
    have := s1.1
    omega
  have w2 := ho lo hi b3 b1 ls1 _ (by omega) (by omega) hh s1.1 h1 h2 a2 (fun _ => w1) (fun q => absurd hc q)
  rw [show n + (hi - lo) = n + (hi - (b3 + 1)) + 1 + (b3 - lo) by omega]
  exact k1 _ w2
theorem ct_8 (hN : N ≤ 40) (h : sk_ T N W 8 lo hi) (hh : hi ≤ N) (n : Nat) (w : W lo hi n 0 lo 9 hi) : W lo hi (n + (hi - lo)) 0 lo 9 lo := by
  obtain ⟨a1, a2, a3⟩ := h
  obtain ⟨b1, ls1, s1, k1⟩ := a3 lo hi (Or.inl rfl) (Nat.le_refl _) hh 0 lo 9 (by omega) (by omega)
  have e := s1.2.2.2.1
  rw [show la_ 8 = 9 from rfl] at e
  rcases s1.2.2.2.2 with y | y
  · rw [y.1, y.2] at k1; exact k1 n w
  · omega
theorem ct_6 (hN : N ≤ 40) (h : sk_ T N W 6 lo hi) (hh : hi ≤ N) : ∃ b, (b = lo ∨ (T b = 15 ∧ lo ≤ b ∧ b < hi)) ∧ ∃ ls, ∀ n, W lo hi n 0 b ls hi → W lo hi (n + (hi - lo)) 0 lo 9 lo := by
  obtain ⟨a1, a2, a3⟩ := h
  obtain ⟨b1, ls1, s1, k1⟩ := a3 lo hi (Or.inl rfl) (Nat.le_refl _) hh 0 lo 9 (by omega) (by omega)
  have e := s1.2.2.2.1
  rw [show la_ 6 = 5 from rfl] at e
  refine ⟨b1, ?_, ls1, k1⟩
  rcases s1.2.2.2.2 with y | y
  · exact Or.inl y.1
  · refine Or.inr ⟨?_, y.2.2.1, y.2.2.2⟩
    have e2 := y.1
    have e3 := y.2.1
    unfold lo_ at e2
    by_cases z : T b1 = 15
    · exact z
    · exfalso
      rw [if_neg z] at e2
      repeat' split at e2
      all_goals omega
theorem ct_a (hN : N ≤ 40) (h : sk_ T N W l lo hi) (hh : hi ≤ N) : ∃ b ls, b < 100 ∧ ∀ n, W lo hi n 0 b ls hi → W lo hi (n + (hi - lo)) 0 lo 9 lo := by
  obtain ⟨a1, a2, a3⟩ := h
  obtain ⟨b1, ls1, s1, k1⟩ := a3 lo hi (Or.inl rfl) (Nat.le_refl _) hh 0 lo 9 (by omega) (by omega)
  refine ⟨b1, ls1, ?_, k1⟩
  rcases s1.2.2.2.2 with y | y <;> omega
end
section
variable {gP gT gW gJ gV gE : Int32} {bD bG bP bW bL bT bO bH : Nat → Int32}
variable {T : Nat → Nat} {O A B : Nat → Int32} {N : Nat} {l lo hi p q m : Nat}
theorem cw_9 (hT : tn_ T N bL) (pi : Int32 → Prop) : s9_ T N (fun lo0 hi0 n D b ls i => wY_cut_12 pi (nI lo0) (nI hi0) gP gT gW gJ gV gE bD bG bP bW bL bT bO bH n (nI D) (nI b) (nI ls) (nI i)) :=
  fun lo0 hi0 i D E b ls n hl h1 h2 h3 h4 h5 h6 w => y_c9 hT h1 h2 h3 hl h4 h5 h6 w
theorem cw_o (hT : tn_ T N bL) (pi : Int32 → Prop) : so9_ T N (fun lo0 hi0 n D b ls i => wY_cut_12 pi (nI lo0) (nI hi0) gP gT gW gJ gV gE bD bG bP bW bL bT bO bH n (nI D) (nI b) (nI ls) (nI i)) :=
  fun lo0 hi0 i b ls n hl h1 h2 h3 h4 h5 h6 k1 k2 => by
    have h40 := hT.1
    refine y_cs (D := 0) (E := 0) hT h1 h2 h3 (by omega) (by decide) (Or.inr (Or.inr ⟨h4, h5, rfl⟩)) (fun _ _ _ c => k1 c) (fun c => k2 (fun d => c ⟨rfl, hl, h6, d⟩))
/-- the end of a scan -/
theorem cw_e (hT : tn_ T N bL) {pi : Int32 → Prop} {b ls D : Nat} (hh : hi ≤ N) (K : pi (nI b)) : wY_cut_12 pi (nI lo) (nI hi) gP gT gW gJ gV gE bD bG bP bW bL bT bO bH 1 (nI D) (nI b) (nI ls) (nI hi) := by
  have h40 := hT.1
  exact br_t (nI_le (Nat.le_refl _) (by omega)) K
/-- cut at a joining token -/
theorem y_cut2 {l1 l2 p1 p2 q1 q2 : Nat} (hT : tn_ T N bL) (hl : G_ T O A B l1 lo m p1 q1) (hr : G_ T O A B l2 (m + 1) hi p2 q2) (hh : hi ≤ N) (h1 : T m ≠ 16) (h2 : T m ≠ 17) (h3 : ¬ on_ (T m))
    (g1 : lo_ (T m) < 9) (g2 : lo_ (T m) < la_ l1 ∨ (lo_ (T m) = la_ l1 ∧ lo_ (T m) ≠ 1 ∧ lo_ (T m) ≠ 5)) (g3 : lo_ (T m) < la_ l2 ∨ (lo_ (T m) = la_ l2 ∧ (lo_ (T m) = 1 ∨ lo_ (T m) = 5))) {pi : Int32 → Prop} (K : pi (nI m)) :
    wpY_cut pi (gP, gT, gW, gJ, gV, gE, bD, bG, bP, bW, bL, bT, bO, bH) (nI lo) (nI hi) := by
  exact ⟨1 + (hi - lo), ct_2 (W := fun lo0 hi0 n D b ls i => wY_cut_12 pi (nI lo0) (nI hi0) gP gT gW gJ gV gE bD bG bP bW bL bT bO bH n (nI D) (nI b) (nI ls) (nI i)) hT.1 (cw_9 hT pi) (cw_o hT pi) (sk_G hT.1 (cw_9 hT pi) (cw_o hT pi) hl) (sk_G hT.1 (cw_9 hT pi) (cw_o hT pi) hr) hh h1 h2 h3 g1 g2 g3 1 (cw_e hT hh K)⟩
theorem y_cut8 (hT : tn_ T N bL) (h : G_ T O A B 8 lo hi p q) (hh : hi ≤ N) {pi : Int32 → Prop} (K : pi (nI lo)) : wpY_cut pi (gP, gT, gW, gJ, gV, gE, bD, bG, bP, bW, bL, bT, bO, bH) (nI lo) (nI hi) :=
  ⟨1 + (hi - lo), ct_8 (W := fun lo0 hi0 n D b ls i => wY_cut_12 pi (nI lo0) (nI hi0) gP gT gW gJ gV gE bD bG bP bW bL bT bO bH n (nI D) (nI b) (nI ls) (nI i)) hT.1 (sk_G hT.1 (cw_9 hT pi) (cw_o hT pi) h) hh 1 (cw_e hT hh K)⟩
theorem y_cut6 (hT : tn_ T N bL) (h : G_ T O A B 6 lo hi p q) (hh : hi ≤ N) {pi : Int32 → Prop} (K : ∀ b, (b = lo ∨ (T b = 15 ∧ lo ≤ b ∧ b < hi)) → pi (nI b)) : wpY_cut pi (gP, gT, gW, gJ, gV, gE, bD, bG, bP, bW, bL, bT, bO, bH) (nI lo) (nI hi) := by
  obtain ⟨b, hb, ls, k⟩ := ct_6 (W := fun lo0 hi0 n D b ls i => wY_cut_12 pi (nI lo0) (nI hi0) gP gT gW gJ gV gE bD bG bP bW bL bT bO bH n (nI D) (nI b) (nI ls) (nI i)) hT.1 (sk_G hT.1 (cw_9 hT pi) (cw_o hT pi) h) hh
  exact ⟨1 + (hi - lo), k 1 (cw_e hT hh (K b hb))⟩
theorem y_cuta (hT : tn_ T N bL) (h : G_ T O A B l lo hi p q) (hh : hi ≤ N) {pi : Int32 → Prop} (K : ∀ b, b < 100 → pi (nI b)) : wpY_cut pi (gP, gT, gW, gJ, gV, gE, bD, bG, bP, bW, bL, bT, bO, bH) (nI lo) (nI hi) := by
  obtain ⟨b, ls, hb, k⟩ := ct_a (W := fun lo0 hi0 n D b ls i => wY_cut_12 pi (nI lo0) (nI hi0) gP gT gW gJ gV gE bD bG bP bW bL bT bO bH n (nI D) (nI b) (nI ls) (nI i)) hT.1 (sk_G hT.1 (cw_9 hT pi) (cw_o hT pi) h) hh
  exact ⟨1 + (hi - lo), k 1 (cw_e hT hh (K b hb))⟩
/-! the colon -/
theorem y_col1 {pi : Int32 → Prop} {n o o' k : Nat} (hT : tn_ T N bL) (hk : k + 1 < N) (ho : 1 ≤ o) (ho2 : o < 100)
    (hc : ((T (k + 1) = 21 ∨ T (k + 1) = 16) ∧ o' = o + 1) ∨ ((T (k + 1) = 22 ∨ T (k + 1) = 17) ∧ o = o' + 1) ∨ (T (k + 1) ≠ 21 ∧ T (k + 1) ≠ 16 ∧ T (k + 1) ≠ 22 ∧ T (k + 1) ≠ 17 ∧ o' = o))
    (K : wY_colon_4 pi gP gT gW gJ gV gE bD bG bP bW bL bT bO bH n (nI o') (nI (k + 1))) : wY_colon_4 pi gP gT gW gJ gV gE bD bG bP bW bL bT bO bH (n + 1) (nI o) (nI k) := by
  have h40 := hT.1
  obtain ⟨e1, e2⟩ := hT.2 (k + 1) (by omega)
  have i2 : vp_in (nI (k + 1)) 40 := pk_in (k + 1) 40 (by omega)
  have r1 : bL (nI (k + 1)).toNatClampNeg = nI (T (k + 1)) := by rw [nI_clamp (by omega), e1]
  refine pk_le o 0 (fun z => by omega) (fun _ => pk_le 39 k (fun z => by omega) (fun _ => nm_r (nI_1 k) ⟨i2, ?_⟩))
  have inc : (T (k + 1) = 21 ∨ T (k + 1) = 16) → wY_colon_39 pi (wY_colon_4 pi gP gT gW gJ gV gE bD bG bP bW bL bT bO bH n) (nI o) (nI (k + 1)) gP gT gW gJ gV gE bD bG bP bW bL bT bO bH := by
    intro z
    have e : o' = o + 1 := by omega
    subst e
    refine nm_r (nI_1 o) ⟨i2, pk_eq (T (k + 1)) 22 (fun y => by omega) (fun y => ⟨i2, pk_eq (T (k + 1)) 17 (fun x => by omega) (fun x => K) r1 rfl (by omega)⟩) r1 rfl (by omega)⟩
  refine pk_eq (T (k + 1)) 21 (fun z => inc (Or.inl z)) (fun z => ⟨i2, pk_eq (T (k + 1)) 16 (fun y => inc (Or.inr y)) (fun y => ⟨i2, pk_eq (T (k + 1)) 22 (fun x => nm_r (e' := nI o') ?_ K) (fun x => ⟨i2, pk_eq (T (k + 1)) 17 (fun w => nm_r (e' := nI o') ?_ K) (fun w => ?_) r1 rfl (by omega)⟩) r1 rfl (by omega)⟩) r1 rfl (by omega)⟩) r1 rfl (by omega)
  · rw [show o = o' + 1 by omega]; exact pk_m1 o'
  · rw [show o = o' + 1 by omega]; exact pk_m1 o'
  · rw [show o' = o by omega] at K; exact K
theorem y_colG (hT : tn_ T N bL) (pi : Int32 → Prop) (h : G_ T O A B l lo hi p q) : lo < hi ∧ ∀ o n k, 1 ≤ o → o + (hi - lo) < 90 → lo = k + 1 → hi ≤ N → wY_colon_4 pi gP gT gW gJ gV gE bD bG bP bW bL bT bO bH n (nI o) (nI (hi - 1)) → wY_colon_4 pi gP gT gW gJ gV gE bD bG bP bW bL bT bO bH (n + (hi - lo)) (nI o) (nI k) := by
  refine h (fun l lo hi p q => lo < hi ∧ ∀ o n k, 1 ≤ o → o + (hi - lo) < 90 → lo = k + 1 → hi ≤ N → wY_colon_4 pi gP gT gW gJ gV gE bD bG bP bW bL bT bO bH n (nI o) (nI (hi - 1)) → wY_colon_4 pi gP gT gW gJ gV gE bD bG bP bW bL bT bO bH (n + (hi - lo)) (nI o) (nI k)) ⟨?_, ?_, ?_, ?_, ?_, ?_, ?_, ?_, ?_⟩
  · intro lo p h1 h2 h3
    refine ⟨by omega, fun o n k k1 k2 k3 k4 w => ?_⟩
    subst k3
    rw [show n + (k + 1 + 1 - (k + 1)) = n + 1 by omega]
    exact y_col1 hT (by omega) k1 (by omega) (Or.inr (Or.inr ⟨by omega, by omega, by omega, by omega, rfl⟩)) w
  · intro lo p v h1 h2 h3 h4
    refine ⟨by omega, fun o n k k1 k2 k3 k4 w => ?_⟩
    subst k3
    rw [show n + (k + 1 + 1 - (k + 1)) = n + 1 by omega]
    exact y_col1 hT (by omega) k1 (by omega) (Or.inr (Or.inr ⟨by omega, by omega, by omega, by omega, rfl⟩)) w
  · intro lo hi p q h1 h2 h3
    refine ⟨by omega, fun o n k k1 k2 k3 k4 w => ?_⟩
    subst k3
    obtain ⟨j, rfl⟩ : ∃ j, hi = j + 1 := ⟨hi - 1, by omega⟩
    have w1 := y_col1 (o := o + 1) (o' := o) (k := j) hT (by omega) (by omega) (by omega) (Or.inr (Or.inl ⟨Or.inr h3, rfl⟩)) w
    have w2 := h2.2 (o + 1) (n + 1) (k + 1) (by omega) (by omega) rfl (by omega) w1
    rw [show n + (j + 1 + 1 - (k + 1)) = n + 1 + (j + 1 - (k + 1 + 1)) + 1 by omega]
    exact y_col1 hT (by omega) k1 (by omega) (Or.inl ⟨Or.inr h1, rfl⟩) w2
  · intro lo hi p q h1 h2 h3 h4 h5 h6
    refine ⟨by omega, fun o n k k1 k2 k3 k4 w => ?_⟩
    subst k3
    obtain ⟨j, rfl⟩ : ∃ j, hi = j + 1 := ⟨hi - 1, by omega⟩
    have w1 := y_col1 (o := o + 1) (o' := o) (k := j) hT (by omega) (by omega) (by omega) (Or.inr (Or.inl ⟨Or.inr h4, rfl⟩)) w
    have w2 := h3.2 (o + 1) (n + 1) (k + 1 + 1) (by omega) (by omega) rfl (by omega) w1
    have w3 := y_col1 (k := k + 1) hT (by omega) k1 (by omega) (Or.inl ⟨Or.inr h2, rfl⟩) w2
    rw [show n + (j + 1 + 1 - (k + 1)) = n + 1 + (j + 1 - (k + 1 + 2)) + 1 + 1 by omega]
    exact y_col1 hT (by omega) k1 (by omega) (Or.inr (Or.inr ⟨by omega, by omega, by omega, by omega, rfl⟩)) w3
  · intro lo m hi p p1 p2 h1 h2 h3 h4 h5
    refine ⟨by omega, fun o n k k1 k2 k3 k4 w => ?_⟩
    have hm : T m ≠ 21 ∧ T m ≠ 16 ∧ T m ≠ 22 ∧ T m ≠ 17 := by unfold bo_ at h1; omega
    obtain ⟨j, rfl⟩ : ∃ j, m = j + 1 := ⟨m - 1, by omega⟩
    have w1 := h3.2 o n (j + 1) k1 (by omega) rfl k4 w
    have w2 := y_col1 (k := j) hT (by omega) k1 (by omega) (Or.inr (Or.inr ⟨hm.1, hm.2.1, hm.2.2.1, hm.2.2.2, rfl⟩)) w1
    have w3 := h2.2 o _ k k1 (by omega) k3 (by omega) w2
    rw [show n + (hi - lo) = n + (hi - (j + 1 + 1)) + 1 + (j + 1 - lo) by omega]
    exact w3
  · intro lo hi p q h1 h2 h3
    refine ⟨by omega, fun o n k k1 k2 k3 k4 w => ?_⟩
    subst k3
    have w1 := h2.2 o n (k + 1) k1 (by omega) rfl k4 w
    rw [show n + (hi - (k + 1)) = n + (hi - (k + 1 + 1)) + 1 by omega]
    exact y_col1 hT (by omega) k1 (by omega) (Or.inr (Or.inr ⟨by omega, by omega, by omega, by omega, rfl⟩)) w1
  · intro lo m c hi p p1 p2 p3 h1 h2 h3 h4 h5 h6 h7 h8 h9
    refine ⟨by omega, fun o n k k1 k2 k3 k4 w => ?_⟩
    obtain ⟨j, rfl⟩ : ∃ j, m = j + 1 := ⟨m - 1, by omega⟩
    obtain ⟨i, rfl⟩ : ∃ i, c = i + 1 := ⟨c - 1, by omega⟩
    have w1 := h5.2 o n (i + 1) k1 (by omega) rfl k4 w
    have w2 := y_col1 (o := o + 1) (o' := o) (k := i) hT (by omega) (by omega) (by omega) (Or.inr (Or.inl ⟨Or.inl h2, rfl⟩)) w1
    have w3 := h4.2 (o + 1) _ (j + 1) (by omega) (by omega) rfl (by omega) w2
    have w4 := y_col1 (k := j) hT (by omega) k1 (by omega) (Or.inl ⟨Or.inl h1, rfl⟩) w3
    have w5 := h3.2 o _ k k1 (by omega) k3 (by omega) w4
    rw [show n + (hi - lo) = n + (hi - (i + 1 + 1)) + 1 + (i + 1 - (j + 1 + 1)) + 1 + (j + 1 - lo) by omega]
    exact w5
  · intro lo hi p q h1 h2 h3 h4 h5
    refine ⟨by omega, fun o n k k1 k2 k3 k4 w => ?_⟩
    subst k3
    have w1 := h3.2 o n (k + 2) k1 (by omega) (by omega) k4 w
    have w2 := y_col1 (k := k + 1) hT (by omega) k1 (by omega) (Or.inr (Or.inr ⟨by omega, by omega, by omega, by omega, rfl⟩)) w1
    rw [show n + (hi - (k + 1)) = n + (hi - (k + 1 + 2)) + 1 + 1 by omega]
    exact y_col1 hT (by omega) k1 (by omega) (Or.inr (Or.inr ⟨by omega, by omega, by omega, by omega, rfl⟩)) w2
  · intro l l' lo hi p q h1 h2
    exact h2
theorem y_colon (hT : tn_ T N bL) {pi : Int32 → Prop} {c : Nat} (h : G_ T O A B l (m + 1) c p q) (hc : T c = 22) (hN : c < N) (K : pi (nI c)) : wpY_colon pi (gP, gT, gW, gJ, gV, gE, bD, bG, bP, bW, bL, bT, bO, bH) (nI m) := by
  have h40 := hT.1
  obtain ⟨g1, g2⟩ := y_colG hT pi h
  obtain ⟨j, rfl⟩ : ∃ j, c = j + 1 := ⟨c - 1, by omega⟩
  have w0 : wY_colon_4 pi gP gT gW gJ gV gE bD bG bP bW bL bT bO bH 1 (nI 0) (nI (j + 1)) := pk_le 0 0 (fun _ => K) (fun z => by omega)
  exact ⟨_, g2 1 2 m (Nat.le_refl _) (by omega) rfl (by omega) (y_col1 (o := 1) (o' := 0) (k := j) hT (by omega) (by omega) (by omega) (Or.inr (Or.inl ⟨Or.inl hc, rfl⟩)) w0)⟩
end
end
section
/-! the operators of a line -/
def o_bin (R : RR_) (sc t a b : Nat) : Int32 × RR_ :=
  if t = 10 then o_sum R a b (R.2.1 b) a else if t = 11 then o_sum R a b (-R.2.1 b) a else if t = 12 then o_mul R sc a b a else if t = 13 then o_div R sc a b a else if t = 14 then o_rem R sc a b a else
  if t = 15 then (if o_exp R b < 0 then (-5, R) else o_pow R sc a (R.1 b / 10 ^ R.2.2 b) a) else (0, st_R R a (if o_cmp R a b < 0 then 1 else 0) 1 0)
theorem po_bin {R S : RR_} {sc t a b : Nat} (h : ag_ R S) (ha : a < 28) (hb : b < 28) : po_ (o_bin R sc t a b) (o_bin S sc t a b) := by
  obtain ⟨b1, b2, b3⟩ := h b hb
  unfold o_bin
  rw [po_exp h hb, po_cmp h ha hb, b1, b2, b3]
  split
  · exact po_sum h ha hb
  split
  · exact po_sum h ha hb
  split
  · exact po_mul h ha hb
  split
  · exact po_div h ha hb
  split
  · exact po_rem h ha hb
  split
  · split
    · exact ⟨rfl, h⟩
    · exact po_pow h ha
  · exact ⟨rfl, ag_st h _ _ _ _⟩
theorem wf_bin {R : RR_} {sc t a b : Nat} (h : wf_ R) : wf_ (o_bin R sc t a b).2 := by
  unfold o_bin
  split
  · exact wf_sum h (h b).2.1 (h b).2.2.1
  split
  · exact wf_sum h (sn_neg (h b).2.1) (ng_0 (h b).2.1 (h b).2.2.1)
  split
  · exact wf_mul h
  split
  · exact wf_div h
  split
  · exact wf_rem h
  split
  · split
    · exact h
    · exact wf_pow h
  · refine wf_st h ?_ sn_1 (fun _ q => absurd q (by decide)) (by decide)
    split <;> decide
/-- an answer that is no error is a sign -/
theorem ex_c (R : RR_) (b : Nat) : (o_exp R b = -1 ∧ ¬ (¬ R.2.1 b < 0 ∧ R.1 b / 10 ^ R.2.2 b < 10 ∧ R.1 b / 10 ^ R.2.2 b * 10 ^ R.2.2 b = R.1 b)) ∨ (o_exp R b = nI (R.1 b / 10 ^ R.2.2 b) ∧ R.1 b / 10 ^ R.2.2 b < 10 ∧ (¬ R.2.1 b < 0 ∧ R.1 b / 10 ^ R.2.2 b < 10 ∧ R.1 b / 10 ^ R.2.2 b * 10 ^ R.2.2 b = R.1 b)) := by
  unfold o_exp
  by_cases z : ¬ R.2.1 b < 0 ∧ R.1 b / 10 ^ R.2.2 b < 10 ∧ R.1 b / 10 ^ R.2.2 b * 10 ^ R.2.2 b = R.1 b
  · rw [if_pos z]; exact Or.inr ⟨rfl, z.2.1, z⟩
  · rw [if_neg z]; exact Or.inl ⟨rfl, z⟩
section
variable {fS fC fA fP fW fE fN fT : Int32} {aL aG aC aT aO aR aA aK aH aB aW : Nat → Int32}
variable {pr : Int32 → SX → Prop}
theorem x_bin {R : RR_} {d : Nat → Nat} (h : wf_ R) (hB : bd_ d) (sc t a b : Nat) (ht : bo_ t) (hsc : sc ≤ 16) (ha : a < 28) (hb : b < 28)
    (K : ∀ d', bd_ d' → pr (o_bin R sc t a b).1 (nI sc, fC, fA, fP, fW, fE, fN, fT, dn_A (rg_l ((o_bin R sc t a b).2).1), ((o_bin R sc t a b).2).2.1, dn_A ((o_bin R sc t a b).2).2.2, aT, aO, aR, aA, aK, aH, aB, dn_A d')) :
    wpX_binary pr (nI sc, fC, fA, fP, fW, fE, fN, fT, dn_A (rg_l R.1), R.2.1, dn_A R.2.2, aT, aO, aR, aA, aK, aH, aB, dn_A d) (nI t) (nI a) (nI b) := by
  have i2 : vp_in (nI b) 28 := pk_in b 28 hb
  have rb : (nI b).toNatClampNeg = b := nI_clamp (by omega)
  unfold wpX_binary
  unfold o_bin at K
  rcases ht with e | e | e | e | e | e | e <;> subst e
  · rw [if_neg (by decide), if_neg (by decide), if_neg (by decide), if_neg (by decide), if_neg (by decide), if_neg (by decide)] at K
    refine br_f (by decide) (br_t (by decide) (x_rank h hB a b ha hb (fun d1 b1 => br_c (fun z => x_small a 0 ha (by decide) ?_) (fun z => x_small a 1 ha (by decide) ?_))))
    · rw [if_neg (Int32.not_lt.mpr z)] at K; exact K d1 b1
    · rw [if_pos (Int32.not_le.mp z)] at K; exact K d1 b1
  · rw [if_pos rfl] at K
    refine br_f (by decide) (br_f (by decide) (br_t rfl ⟨i2, ?_⟩))
    rw [rb]
    exact x_sum h hB a b a ha hb ha (h b).2.1 K
  · rw [if_neg (by decide), if_pos rfl] at K
    refine br_f (by decide) (br_f (by decide) (br_f (by decide) (br_t rfl ⟨i2, ?_⟩)))
    rw [rb]
    exact x_sum h hB a b a ha hb ha (sn_neg (h b).2.1) K
  · rw [if_neg (by decide), if_neg (by decide), if_pos rfl] at K
    exact br_f (by decide) (br_f (by decide) (br_f (by decide) (br_f (by decide) (br_t rfl (x_mul h hB sc a b a hsc ha hb ha K)))))
  · rw [if_neg (by decide), if_neg (by decide), if_neg (by decide), if_pos rfl] at K
    refine br_f (by decide) (br_f (by decide) (br_f (by decide) (br_f (by decide) (br_f (by decide) (br_t rfl ⟨i2, br_c (fun z => ?_) (fun z => x_div h hB sc a b a hsc ha hb ha K)⟩)))))
    rw [rb] at z
    unfold o_div at K
    rw [if_pos z] at K
    exact K d hB
  · rw [if_neg (by decide), if_neg (by decide), if_neg (by decide), if_neg (by decide), if_pos rfl] at K
    refine br_f (by decide) (br_f (by decide) (br_f (by decide) (br_f (by decide) (br_f (by decide) (br_f (by decide) (br_t rfl ⟨i2, br_c (fun z => ?_) (fun z => x_rem h hB sc a b a hsc ha hb ha K)⟩))))))
    rw [rb] at z
    unfold o_rem at K
    rw [if_pos z] at K
    exact K d hB
  · rw [if_neg (by decide), if_neg (by decide), if_neg (by decide), if_neg (by decide), if_neg (by decide), if_pos rfl] at K
    refine br_f (by decide) (br_f (by decide) (br_f (by decide) (br_f (by decide) (br_f (by decide) (br_f (by decide) (br_f (by decide) (br_t rfl (x_exp h hB b hb (fun d1 b1 => ?_)))))))))
    rcases ex_c R b with z | z
    · rw [z.1, if_pos (by decide)] at K
      rw [z.1]
      exact br_f (by decide) (K d1 b1)
    · rw [z.1, if_neg (nI_pos (by omega))] at K
      rw [z.1]
      exact br_t (nI_pos' (by omega)) (x_pow h b1 sc a _ a hsc ha ha (by omega) K)
end
/-! the reference's search for the exponent -/
theorem li_ {S S' : RR_} {b e : Nat} (h : wf_ S') (hb : b < 28) (hag : ag_ S S') (he : e < 10) :
    (o_cmp (st_R S' 31 e 1 0) b 31 = 0 ↔ (¬ S.2.1 b < 0 ∧ S.1 b = e * 10 ^ S.2.2 b)) := by
  obtain ⟨b1, b2, b3⟩ := hag b hb
  obtain ⟨h1, h2, h3, h4⟩ := h b
  rw [b1, b2, b3]
  have n1 : b ≠ 31 := by omega
  unfold o_cmp sh_ mc_ st_R
  dsimp only
  simp only [dn_un n1, dn_us, pk_un n1, pk_us, Nat.max_eq_left (Nat.zero_le _), Nat.sub_self, Nat.sub_zero, Nat.pow_zero, Nat.mul_one]
  generalize S'.1 b = v at *
  generalize S'.2.1 b = g at *
  have hp := pw_pos (S'.2.2 b)
  generalize 10 ^ S'.2.2 b = P at *
  by_cases z : e = 0
  · subst z
    rw [if_pos rfl, Nat.zero_mul]
    rcases h2 with q | q | q
    · subst q
      have : v ≠ 0 := fun w => absurd (h3.mpr w) (by decide)
      constructor
      · intro w; rw [if_neg (by decide)] at w; exact absurd w (by decide)
      · intro w; exact absurd w.2 this
    · subst q
      have hv := h3.mp rfl
      subst hv
      constructor
      · intro _; exact ⟨by decide, rfl⟩
      · intro _; decide
    · subst q
      have : v ≠ 0 := fun w => absurd (h3.mpr w) (by decide)
      constructor
      · intro w; rw [if_neg (by decide)] at w; exact absurd w (by decide)
      · intro w; exact absurd w.2 this
  · rw [if_neg z]
    rcases h2 with q | q | q
    · subst q
      constructor
      · intro w; rw [if_neg (by decide)] at w; exact absurd w (by decide)
      · intro w; exact absurd (show (-1 : Int32) < 0 by decide) w.1
    · subst q
      have hv := h3.mp rfl
      subst hv
      constructor
      · intro w; rw [if_neg (by decide)] at w; exact absurd w (by decide)
      · intro w
        have := Nat.mul_pos (show 0 < e by omega) hp
        omega
    · subst q
      rw [if_pos rfl, if_pos (by decide)]
      constructor
      · intro w
        refine ⟨by decide, ?_⟩
        rcases Nat.lt_trichotomy v (e * P) with y | y | y
        · rw [cm_lt y] at w; exact absurd w (by decide)
        · exact y
        · rw [cm_gt y] at w; exact absurd w (by decide)
      · intro w; exact cm_eq w.2
section
variable {gP gT gW gJ gV gE : Int32} {bD bG bP bW bL bT bO bH : Nat → Int32}
variable {pr : Int32 → SY → Prop}
theorem st_31 {S : RR_} {e : Nat} (he : e < 10) : sr_ S 31 e 1 0 = st_R S 31 e 1 0 := by
  unfold sr_
  rw [if_neg]
  have : (10 : Nat) < 10 ^ 40 := by decide
  omega
theorem ag_31 {S S' : RR_} {e : Nat} (h : ag_ S S') : ag_ S (st_R S' 31 e 1 0) := fun r hr => by
  obtain ⟨h1, h2, h3⟩ := h r hr
  have n1 : r ≠ 31 := by omega
  show _ = dn_u S'.1 31 e r ∧ _ = upd S'.2.1 31 _ r ∧ _ = dn_u S'.2.2 31 0 r
  rw [dn_un n1, dn_un n1, pk_un n1]
  exact ⟨h1, h2, h3⟩
theorem ar_e {e1 : Nat → Nat} {v : Nat} (hv : v < 10) (z1 : ∀ j, 128 * 0 ≤ j → j < 128 * 0 + 128 → e1 j = 0) : ar_ (dn_u e1 0 v) 0 v := by
  refine ar_of (Nat.lt_of_lt_of_le hv (Nat.pow_le_pow_right (n := 10) (by decide) (show 1 ≤ 128 by decide))) (fun k hk => ?_)
  rcases Nat.eq_zero_or_pos k with z | z
  · subst z; rw [Nat.mul_zero, dn_us, Nat.pow_zero, Nat.div_one, Nat.mod_eq_of_lt hv]
  · rw [dn_un (by omega), z1 _ (by omega) (by omega)]
    have : 10 ^ 1 ≤ 10 ^ k := Nat.pow_le_pow_right (by decide) z
    rw [Nat.div_eq_of_lt (by omega)]
theorem y_lift_l {S : RR_} (hS : wf_ S) {sc a b : Nat} (hsc : sc ≤ 16) (ha : a < 28) (hb : b < 28) (hab : b = a + 1)
    (K : ∀ e' S', wf_ S' → ag_ (o_bin S sc 15 a b).2 S' → pr (o_bin S sc 15 a b).1 (nI sc, gT, gW, gJ, gV, gE, dn_A (rg_d S'.1), S'.2.1, dn_A S'.2.2, dn_A e', bL, bT, bO, bH)) :
    ∀ (m x : Nat) (S' : RR_) (e : Nat → Nat), x + m = 10 → wf_ S' → ag_ S S' → (∀ j, j < x → ¬ (¬ S.2.1 b < 0 ∧ S.1 b = j * 10 ^ S.2.2 b)) →
    wY_lifted_2 pr (nI a) (m + 1) (nI x) (nI sc) gT gW gJ gV gE (dn_A (rg_d S'.1)) S'.2.1 (dn_A S'.2.2) (dn_A e) bL bT bO bH
  | 0, x, S', e, hx, hw, hag, hno => by
    have ex : x = 10 := by omega
    subst ex
    refine br_t (by decide) ?_
    have K2 := K e S' hw
    unfold o_bin at K2
    rw [if_neg (by decide), if_neg (by decide), if_neg (by decide), if_neg (by decide), if_neg (by decide), if_pos rfl] at K2
    rcases ex_c S b with z | z
    · rw [z.1, if_pos (by decide)] at K2
      exact K2 hag
    · exact absurd ⟨z.2.2.1, z.2.2.2.2.symm⟩ (hno _ z.2.1)
  | m + 1, x, S', e, hx, hw, hag, hno => by
    refine pk_le 10 x (fun z => by omega) (fun _ => y_zero 0 (by decide) (fun e1 a1 z1 f1 => nm_r (e' := dn_A (dn_u e1 0 x)) dn_up (y_keep (n := 0) 0 31 (by decide) (ar_e (by omega) z1) (by decide) (by decide) ?_)))
    rw [st_31 (by omega)]
    have hw2 : wf_ (st_R S' 31 x 1 0) := wf_st hw (Nat.lt_of_lt_of_le (show x < 10 by omega) (Nat.pow_le_pow_right (n := 10) (by decide) (show 1 ≤ 40 by decide))) sn_1 (fun _ q => absurd q (by decide)) (by decide)
    have hag2 : ag_ S (st_R S' 31 x 1 0) := ag_31 hag
    have hli := li_ (e := x) hw hb hag (by omega)
    dsimp only
    rw [show nI a + 1 = nI b by rw [hab]; exact nI_1 a]
    refine y_cmp hw2 b 31 (by omega) (by decide) (fun e2 => br_c (fun z => ?_) (fun z => nm_r (nI_1 x) (y_lift_l hS hsc ha hb hab K m (x + 1) _ e2 (by omega) hw2 hag2 (fun j hj => ?_))))
    · have hz := hli.mp z
      refine y_pow hw2 sc a x a hsc (by omega) (by omega) (by omega) (fun e3 => ?_)
      have hd : S.1 b / 10 ^ S.2.2 b = x := by rw [hz.2, Nat.mul_div_cancel _ (pw_pos _)]
      have hpo := po_pow (sc := sc) (e := x) (t := a) hag2 ha
      have K2 := K e3 (o_pow (st_R S' 31 x 1 0) sc a x a).2 (wf_pow hw2)
      unfold o_bin at K2
      rw [if_neg (by decide), if_neg (by decide), if_neg (by decide), if_neg (by decide), if_neg (by decide), if_pos rfl] at K2
      rcases ex_c S b with y | y
      · exact absurd ⟨hz.1, by rw [hd]; omega, by rw [hd]; exact hz.2.symm⟩ y.2
      · rw [y.1, if_neg (nI_pos (by omega)), hd] at K2
        rw [← hpo.1]
        exact K2 hpo.2
    · rcases Nat.lt_or_ge j x with w | w
      · exact hno j w
      · rw [show j = x by omega]
        exact fun q => z (hli.mpr q)
/-- the operators but the power, and the root: the last two values -/
theorem y_bin {S : RR_} {e : Nat → Nat} (h : wf_ S) (sc t a b : Nat) (ht : bo_ t) (h15 : t ≠ 15) (hsc : sc ≤ 16) (ha : a < 28) (hb : b < 28) (hab : b = a + 1)
    (K : ∀ e' S' (ans : Int32), wf_ S' → ag_ (o_bin S sc t a b).2 S' → (ans = (o_bin S sc t a b).1 ∨ (-1 ≤ ans ∧ -1 ≤ (o_bin S sc t a b).1)) → pr ans (nI sc, gT, gW, gJ, gV, gE, dn_A (rg_d S'.1), S'.2.1, dn_A S'.2.2, dn_A e', bL, bT, bO, bH)) :
    wpY_joined pr (nI sc, gT, gW, gJ, gV, gE, dn_A (rg_d S.1), S.2.1, dn_A S.2.2, dn_A e, bL, bT, bO, bH) (nI t) (nI a) := by
  have i2 : vp_in (nI b) 32 := pk_in b 32 (by omega)
  have rb : (nI b).toNatClampNeg = b := nI_clamp (by omega)
  have hs : nI a + 1 = nI b := by rw [hab]; exact nI_1 a
  have ag0 : ∀ X : RR_, ag_ X X := fun X r hr => ⟨rfl, rfl, rfl⟩
  have K' : ∀ e', pr (o_bin S sc t a b).1 (nI sc, gT, gW, gJ, gV, gE, dn_A (rg_d ((o_bin S sc t a b).2).1), ((o_bin S sc t a b).2).2.1, dn_A ((o_bin S sc t a b).2).2.2, dn_A e', bL, bT, bO, bH) := fun e' => K e' _ _ (wf_bin h) (ag0 _) (Or.inl rfl)
  unfold wpY_joined
  dsimp only
  rw [hs]
  unfold o_bin at K'
  rcases ht with q | q | q | q | q | q | q <;> subst q
  · refine br_t rfl (y_cmp h a b (by omega) (by omega) (fun e1 => y_zero 0 (by decide) (fun e2 a2 z2 f2 => ?_)))
    have go : ∀ w : Nat, w < 2 → w = (if o_cmp S a b < 0 then 1 else 0) → wY_joined_34 pr (nI a) (nI w) 0 (nI sc) gT gW gJ gV gE (dn_A (rg_d S.1)) S.2.1 (dn_A S.2.2) (dn_A e2) bL bT bO bH := by
      intro w hw hw2
      refine ⟨pk_in 0 512 (by decide), nm_r (e' := dn_A (dn_u e2 0 w)) dn_up (y_keep (n := 0) 0 a (by decide) (ar_e (by omega) z2) (by omega) (by decide) ?_)⟩
      have hl : ¬ (10 ^ 40 ≤ w ∨ 20 < 0) := by
        have : (10 : Nat) < 10 ^ 40 := by decide
        omega
      have e3 : sr_ S a w 1 0 = (o_bin S sc 20 a b).2 := by
        unfold sr_ o_bin
        rw [if_neg hl, if_neg (by decide), if_neg (by decide), if_neg (by decide), if_neg (by decide), if_neg (by decide), if_neg (by decide), hw2]
      have e4 : (o_bin S sc 20 a b).1 = 0 := by
        unfold o_bin
        rw [if_neg (by decide), if_neg (by decide), if_neg (by decide), if_neg (by decide), if_neg (by decide), if_neg (by decide)]
      rw [e3]
      refine K _ _ _ (wf_bin h) (ag0 _) (Or.inr ⟨?_, by rw [e4]; decide⟩)
      unfold sa_
      rw [if_neg hl]
      split <;> decide
    exact br_c (fun z => go 0 (by decide) (by rw [if_neg (Int32.not_lt.mpr z)])) (fun z => go 1 (by decide) (by rw [if_pos (Int32.not_le.mp z)]))
  · rw [if_pos rfl] at K'
    refine br_f (by decide) (br_t rfl ⟨i2, ?_⟩)
    rw [rb]
    exact y_sum h a b a (by omega) (by omega) (by omega) K'
  · rw [if_neg (by decide), if_pos rfl] at K'
    refine br_f (by decide) (br_f (by decide) (br_t rfl ⟨i2, ?_⟩))
    rw [rb]
    exact y_sum h a b a (by omega) (by omega) (by omega) K'
  · rw [if_neg (by decide), if_neg (by decide), if_pos rfl] at K'
    exact br_f (by decide) (br_f (by decide) (br_f (by decide) (br_t rfl (y_mul h sc a b a hsc (by omega) (by omega) (by omega) K'))))
  · rw [if_neg (by decide), if_neg (by decide), if_neg (by decide), if_pos rfl] at K'
    exact br_f (by decide) (br_f (by decide) (br_f (by decide) (br_f (by decide) (br_f (by decide) (y_part (p := 0) h sc a b a hsc (by omega) (by omega) (by omega) (fun _ => K') (fun z => absurd rfl z))))))
  · rw [if_neg (by decide), if_neg (by decide), if_neg (by decide), if_neg (by decide), if_pos rfl] at K'
    exact br_f (by decide) (br_f (by decide) (br_f (by decide) (br_f (by decide) (br_t rfl (y_part (p := 1) h sc a b a hsc (by omega) (by omega) (by omega) (fun z => absurd z (by decide)) (fun _ => K'))))))
  · exact absurd rfl h15
theorem y_lift {S : RR_} {e : Nat → Nat} (h : wf_ S) (sc a b : Nat) (hsc : sc ≤ 16) (ha : a < 28) (hb : b < 28) (hab : b = a + 1)
    (K : ∀ e' S', wf_ S' → ag_ (o_bin S sc 15 a b).2 S' → pr (o_bin S sc 15 a b).1 (nI sc, gT, gW, gJ, gV, gE, dn_A (rg_d S'.1), S'.2.1, dn_A S'.2.2, dn_A e', bL, bT, bO, bH)) :
    wpY_lifted pr (nI sc, gT, gW, gJ, gV, gE, dn_A (rg_d S.1), S.2.1, dn_A S.2.2, dn_A e, bL, bT, bO, bH) (nI a) :=
  ⟨11, y_lift_l h hsc ha hb hab K 10 0 S e rfl h (fun r hr => ⟨rfl, rfl, rfl⟩) (fun j hj => by omega)⟩
end
end
section
/-! one operation of the component's code -/
section
variable {fS fC fA fP fW fE fN fT : Int32} {aL aG aC aT aO aR aA aK aH aB aW : Nat → Int32}
variable {post : Int32 → SX → Prop} {sc pe k n h : Nat} {R : RR_} {d : Nat → Nat}
theorem n8_ (h : Nat) : nI (8 + h) + 1 = nI (8 + (h + 1)) := nI_1 _
theorem n8_m (h : Nat) : nI (8 + (h + 1)) - 1 = nI (8 + h) := nI_pred _
theorem n8_n (h : Nat) : nI (8 + (h + 1)) + (-1) = nI (8 + h) := pk_m1 _
theorem xs_ld {r : Nat} (hw : wf_ R) (hk : k < pe) (hp : pe ≤ 99) (h1 : aO k = 31) (h2 : aR k = nI r) (hr : r < 28) (hh : h < 20) (K : wX_execute_10 post (nI pe) n (nI (8 + (h + 1))) (nI (k + 1)) (nI sc) fC fA fP fW fE fN fT (dn_A (rg_l (dp_ R r (8 + h)).1)) ((dp_ R r (8 + h)).2.1) (dn_A (dp_ R r (8 + h)).2.2) aT aO aR aA aK aH aB (dn_A d)) : wX_execute_10 post (nI pe) (n + 1) (nI (8 + h)) (nI k) (nI sc) fC fA fP fW fE fN fT (dn_A (rg_l R.1)) R.2.1 (dn_A R.2.2) aT aO aR aA aK aH aB (dn_A d) := by
  have i1 : vp_in (nI k) 100 := pk_in k 100 (by omega)
  refine pk_le pe k (fun z => by omega) (fun _ => ⟨i1, nm_r (e' := 31) (by rw [nI_clamp (by omega), h1]) ⟨i1, nm_r (e' := nI r) (by rw [nI_clamp (by omega), h2]) (nm_r (nI_1 k) (br_t rfl (nm_r (n8_ h) (x_dup hw r (8 + h) hr (by omega) (br_t (by decide) K)))))⟩⟩)
theorem xs_sm {v : Nat} (hk : k < pe) (hp : pe ≤ 99) (h1 : aO k = 32) (h2 : aR k = nI v) (hv : v < 1000) (hh : h < 20) (K : wX_execute_10 post (nI pe) n (nI (8 + (h + 1))) (nI (k + 1)) (nI sc) fC fA fP fW fE fN fT (dn_A (rg_l (st_R R (8 + h) v 1 0).1)) ((st_R R (8 + h) v 1 0).2.1) (dn_A (st_R R (8 + h) v 1 0).2.2) aT aO aR aA aK aH aB (dn_A d)) : wX_execute_10 post (nI pe) (n + 1) (nI (8 + h)) (nI k) (nI sc) fC fA fP fW fE fN fT (dn_A (rg_l R.1)) R.2.1 (dn_A R.2.2) aT aO aR aA aK aH aB (dn_A d) := by
  have i1 : vp_in (nI k) 100 := pk_in k 100 (by omega)
  refine pk_le pe k (fun z => by omega) (fun _ => ⟨i1, nm_r (e' := 32) (by rw [nI_clamp (by omega), h1]) ⟨i1, nm_r (e' := nI v) (by rw [nI_clamp (by omega), h2]) (nm_r (nI_1 k) (br_f (by decide) (br_t rfl (nm_r (n8_ h) (x_small (8 + h) v (by omega) hv (br_t (by decide) K))))))⟩⟩)
theorem xs_st {r : Nat} (hw : wf_ R) (hk : k < pe) (hp : pe ≤ 99) (h1 : aO k = 33) (h2 : aR k = nI r) (hr : r < 28) (hh : h < 20) (K : wX_execute_10 post (nI pe) n (nI (8 + (h + 1))) (nI (k + 1)) (nI sc) fC fA fP fW fE fN fT (dn_A (rg_l (dp_ R (8 + h) r).1)) ((dp_ R (8 + h) r).2.1) (dn_A (dp_ R (8 + h) r).2.2) aT aO aR aA aK aH aB (dn_A d)) : wX_execute_10 post (nI pe) (n + 1) (nI (8 + (h + 1))) (nI k) (nI sc) fC fA fP fW fE fN fT (dn_A (rg_l R.1)) R.2.1 (dn_A R.2.2) aT aO aR aA aK aH aB (dn_A d) := by
  have i1 : vp_in (nI k) 100 := pk_in k 100 (by omega)
  refine pk_le pe k (fun z => by omega) (fun _ => ⟨i1, nm_r (e' := 33) (by rw [nI_clamp (by omega), h1]) ⟨i1, nm_r (e' := nI r) (by rw [nI_clamp (by omega), h2]) (nm_r (nI_1 k) (br_f (by decide) (br_f (by decide) (br_t rfl ?_))))⟩⟩)
  rw [n8_m]
  exact x_dup hw (8 + h) r (by omega) hr (br_t (by decide) K)
theorem xs_ng (hw : wf_ R) (hk : k < pe) (hp : pe ≤ 99) (h1 : aO k = 30) (hh : h < 20) (K : wX_execute_10 post (nI pe) n (nI (8 + (h + 1))) (nI (k + 1)) (nI sc) fC fA fP fW fE fN fT (dn_A (rg_l ((R.1, upd R.2.1 (8 + h) (-R.2.1 (8 + h)), R.2.2)).1)) (((R.1, upd R.2.1 (8 + h) (-R.2.1 (8 + h)), R.2.2)).2.1) (dn_A ((R.1, upd R.2.1 (8 + h) (-R.2.1 (8 + h)), R.2.2)).2.2) aT aO aR aA aK aH aB (dn_A d)) : wX_execute_10 post (nI pe) (n + 1) (nI (8 + (h + 1))) (nI k) (nI sc) fC fA fP fW fE fN fT (dn_A (rg_l R.1)) R.2.1 (dn_A R.2.2) aT aO aR aA aK aH aB (dn_A d) := by
  have i1 : vp_in (nI k) 100 := pk_in k 100 (by omega)
  have i2 : vp_in (nI (8 + h)) 28 := pk_in (8 + h) 28 (by omega)
  refine pk_le pe k (fun z => by omega) (fun _ => ⟨i1, nm_r (e' := 30) (by rw [nI_clamp (by omega), h1]) ⟨i1, nm_e (nm_r (nI_1 k) (br_f (by decide) (br_f (by decide) (br_f (by decide) (br_t rfl ?_)))))⟩⟩)
  rw [n8_m]
  refine ⟨i2, i2, nm_r (e' := upd R.2.1 (8 + h) (-R.2.1 (8 + h))) (by rw [nI_clamp (by omega), na_g (sn_neg (hw (8 + h)).2.1)]) (br_t (by decide) K)⟩
theorem xs_jp {p' : Nat} (hk : k < pe) (hp : pe ≤ 99) (h1 : aO k = 35) (h2 : aR k = nI p') (K : wX_execute_10 post (nI pe) n (nI (8 + h)) (nI p') (nI sc) fC fA fP fW fE fN fT (dn_A (rg_l R.1)) R.2.1 (dn_A R.2.2) aT aO aR aA aK aH aB (dn_A d)) : wX_execute_10 post (nI pe) (n + 1) (nI (8 + h)) (nI k) (nI sc) fC fA fP fW fE fN fT (dn_A (rg_l R.1)) R.2.1 (dn_A R.2.2) aT aO aR aA aK aH aB (dn_A d) := by
  have i1 : vp_in (nI k) 100 := pk_in k 100 (by omega)
  refine pk_le pe k (fun z => by omega) (fun _ => ⟨i1, nm_r (e' := 35) (by rw [nI_clamp (by omega), h1]) ⟨i1, nm_r (e' := nI p') (by rw [nI_clamp (by omega), h2]) (nm_r (nI_1 k) (br_f (by decide) (br_f (by decide) (br_f (by decide) (br_f (by decide) (br_f (by decide) (br_t rfl (br_t (by decide) K))))))))⟩⟩)
theorem xs_if {p' : Nat} (hk : k < pe) (hp : pe ≤ 99) (h1 : aO k = 34) (h2 : aR k = nI p') (hh : h < 20) (K1 : R.2.1 (8 + h) = 0 → wX_execute_10 post (nI pe) n (nI (8 + h)) (nI p') (nI sc) fC fA fP fW fE fN fT (dn_A (rg_l R.1)) R.2.1 (dn_A R.2.2) aT aO aR aA aK aH aB (dn_A d)) (K2 : ¬ R.2.1 (8 + h) = 0 → wX_execute_10 post (nI pe) n (nI (8 + h)) (nI (k + 1)) (nI sc) fC fA fP fW fE fN fT (dn_A (rg_l R.1)) R.2.1 (dn_A R.2.2) aT aO aR aA aK aH aB (dn_A d)) : wX_execute_10 post (nI pe) (n + 1) (nI (8 + (h + 1))) (nI k) (nI sc) fC fA fP fW fE fN fT (dn_A (rg_l R.1)) R.2.1 (dn_A R.2.2) aT aO aR aA aK aH aB (dn_A d) := by
  have i1 : vp_in (nI k) 100 := pk_in k 100 (by omega)
  have i2 : vp_in (nI (8 + h)) 28 := pk_in (8 + h) 28 (by omega)
  refine pk_le pe k (fun z => by omega) (fun _ => ⟨i1, nm_r (e' := 34) (by rw [nI_clamp (by omega), h1]) ⟨i1, nm_r (e' := nI p') (by rw [nI_clamp (by omega), h2]) (nm_r (nI_1 k) (br_f (by decide) (br_f (by decide) (br_f (by decide) (br_f (by decide) (br_f (by decide) (br_f (by decide) (br_t rfl (nm_r (n8_n h) ⟨i2, ?_⟩)))))))))⟩⟩)
  rw [nI_clamp (by omega)]
  exact br_c (fun z => br_t (by decide) (K1 z)) (fun z => br_t (by decide) (K2 z))
theorem xs_rt {m : Nat} (hw : wf_ R) (hB : bd_ d) (hsc : sc ≤ 16) (hk : k < pe) (hp : pe ≤ 99) (h1 : aO k = 18) (h3 : aA k = nI m) (hh : h < 20)
    (K1 : -1 ≤ (o_root R sc (8 + h) (8 + h)).1 → ∀ d', bd_ d' → wX_execute_10 post (nI pe) n (nI (8 + (h + 1))) (nI (k + 1)) (nI sc) fC fA fP fW fE fN fT (dn_A (rg_l ((o_root R sc (8 + h) (8 + h)).2).1)) (((o_root R sc (8 + h) (8 + h)).2).2.1) (dn_A ((o_root R sc (8 + h) (8 + h)).2).2.2) aT aO aR aA aK aH aB (dn_A d'))
    (K2 : ¬ -1 ≤ (o_root R sc (8 + h) (8 + h)).1 → ∀ d', bd_ d' → post (o_root R sc (8 + h) (8 + h)).1 (nI sc, fC, fA, fP, fW, nI m, fN, fT, dn_A (rg_l ((o_root R sc (8 + h) (8 + h)).2).1), ((o_root R sc (8 + h) (8 + h)).2).2.1, dn_A ((o_root R sc (8 + h) (8 + h)).2).2.2, aT, aO, aR, aA, aK, aH, aB, dn_A d')) : wX_execute_10 post (nI pe) (n + 1) (nI (8 + (h + 1))) (nI k) (nI sc) fC fA fP fW fE fN fT (dn_A (rg_l R.1)) R.2.1 (dn_A R.2.2) aT aO aR aA aK aH aB (dn_A d) := by
  have i1 : vp_in (nI k) 100 := pk_in k 100 (by omega)
  refine pk_le pe k (fun z => by omega) (fun _ => ⟨i1, nm_r (e' := 18) (by rw [nI_clamp (by omega), h1]) ⟨i1, nm_e (nm_r (nI_1 k) (br_f (by decide) (br_f (by decide) (br_f (by decide) (br_f (by decide) (br_t rfl ?_))))))⟩⟩)
  rw [n8_m]
  refine x_root hw hB sc (8 + h) (8 + h) hsc (by omega) (by omega) (fun d1 b1 => br_c (fun z => K1 z d1 b1) (fun z => ⟨i1, nm_r (e' := nI m) (by rw [nI_clamp (by omega), h3]) (K2 z d1 b1)⟩))
theorem xs_bn {m t : Nat} (hw : wf_ R) (hB : bd_ d) (hsc : sc ≤ 16) (ht : bo_ t) (hk : k < pe) (hp : pe ≤ 99) (h1 : aO k = nI t) (h3 : aA k = nI m) (hh : h < 19)
    (K1 : -1 ≤ (o_bin R sc t (8 + h) (8 + (h + 1))).1 → ∀ d', bd_ d' → wX_execute_10 post (nI pe) n (nI (8 + (h + 1))) (nI (k + 1)) (nI sc) fC fA fP fW fE fN fT (dn_A (rg_l ((o_bin R sc t (8 + h) (8 + (h + 1))).2).1)) (((o_bin R sc t (8 + h) (8 + (h + 1))).2).2.1) (dn_A ((o_bin R sc t (8 + h) (8 + (h + 1))).2).2.2) aT aO aR aA aK aH aB (dn_A d'))
    (K2 : ¬ -1 ≤ (o_bin R sc t (8 + h) (8 + (h + 1))).1 → ∀ d', bd_ d' → post (o_bin R sc t (8 + h) (8 + (h + 1))).1 (nI sc, fC, fA, fP, fW, nI m, fN, fT, dn_A (rg_l ((o_bin R sc t (8 + h) (8 + (h + 1))).2).1), ((o_bin R sc t (8 + h) (8 + (h + 1))).2).2.1, dn_A ((o_bin R sc t (8 + h) (8 + (h + 1))).2).2.2, aT, aO, aR, aA, aK, aH, aB, dn_A d')) : wX_execute_10 post (nI pe) (n + 1) (nI (8 + (h + 2))) (nI k) (nI sc) fC fA fP fW fE fN fT (dn_A (rg_l R.1)) R.2.1 (dn_A R.2.2) aT aO aR aA aK aH aB (dn_A d) := by
  have i1 : vp_in (nI k) 100 := pk_in k 100 (by omega)
  have hne : ∀ c : Nat, 21 ≤ c → c < 100 → ¬ nI t = nI c := fun c c1 c2 => by
    have ht2 : t ≤ 20 := by unfold bo_ at ht; omega
    rw [nI_eq (by omega) (by omega)]
    omega
  have hn18 : ¬ nI t = 18 := by
    have ht2 : t ≤ 20 ∧ t ≠ 18 := by unfold bo_ at ht; omega
    intro z
    exact ht2.2 ((nI_eq (b := 18) (by omega) (by decide)).mp z)
  refine pk_le pe k (fun z => by omega) (fun _ => ⟨i1, nm_r (e' := nI t) (by rw [nI_clamp (by omega), h1]) ⟨i1, nm_e (nm_r (nI_1 k) (br_f (hne 31 (by decide) (by decide)) (br_f (hne 32 (by decide) (by decide)) (br_f (hne 33 (by decide) (by decide)) (br_f (hne 30 (by decide) (by decide)) (br_f hn18 (br_f (hne 35 (by decide) (by decide)) (br_f (hne 34 (by decide) (by decide)) (nm_r (n8_n (h + 1)) ?_)))))))))⟩⟩)
  rw [n8_m]
  refine x_bin hw hB sc t (8 + h) (8 + (h + 1)) ht hsc (by omega) (by omega) (fun d1 b1 => br_c (fun z => K1 z d1 b1) (fun z => ⟨i1, nm_r (e' := nI m) (by rw [nI_clamp (by omega), h3]) (K2 z d1 b1)⟩))
end
end
section
/-! the reference's jobs (printed by mk46.py) -/
def je_ (bT bO bH : Nat → Int32) (J : Nat) (w : Int32) (lo hi : Nat) : Prop := bT J = w ∧ bO J = nI lo ∧ bH J = nI hi
def ja_ (bT bO bH bT' bO' bH' : Nat → Int32) (J : Nat) : Prop := ∀ j, j < J → bT' j = bT j ∧ bO' j = bO j ∧ bH' j = bH j
theorem ja_r {bT bO bH : Nat → Int32} {J : Nat} : ja_ bT bO bH bT bO bH J := fun _ _ => ⟨rfl, rfl, rfl⟩
theorem ja_t {bT bO bH bT1 bO1 bH1 bT2 bO2 bH2 : Nat → Int32} {J K : Nat} (h : ja_ bT bO bH bT1 bO1 bH1 J) (g : ja_ bT1 bO1 bH1 bT2 bO2 bH2 K) (hJ : J ≤ K) : ja_ bT bO bH bT2 bO2 bH2 J := fun j hj => by
  obtain ⟨a1, a2, a3⟩ := h j hj
  obtain ⟨b1, b2, b3⟩ := g j (by omega)
  exact ⟨b1.trans a1, b2.trans a2, b3.trans a3⟩
theorem ja_e {bT bO bH bT1 bO1 bH1 : Nat → Int32} {J K lo hi : Nat} {w : Int32} (h : ja_ bT bO bH bT1 bO1 bH1 J) (hK : K < J) (e : je_ bT bO bH K w lo hi) : je_ bT1 bO1 bH1 K w lo hi := by
  obtain ⟨a1, a2, a3⟩ := h K hK
  exact ⟨a1.trans e.1, a2.trans e.2.1, a3.trans e.2.2⟩
theorem ja_u {bT bO bH : Nat → Int32} {J : Nat} {a b c : Int32} : ja_ bT bO bH (upd bT J a) (upd bO J b) (upd bH J c) J := fun j hj => ⟨pk_un (by omega), pk_un (by omega), pk_un (by omega)⟩
theorem je_u {bT bO bH : Nat → Int32} {J lo hi : Nat} {a : Int32} : je_ (upd bT J a) (upd bO J (nI lo)) (upd bH J (nI hi)) J a lo hi := ⟨pk_us, pk_us, pk_us⟩
/-- a register at the head of what is no assignment has no = behind it -/
theorem na_G {T : Nat → Nat} {O A B : Nat → Int32} {l lo hi p q : Nat} (h : G_ T O A B l lo hi p q) : lo < hi ∧ (3 ≤ l → T lo < 8 → lo + 1 < hi → T (lo + 1) ≠ 19) ∧ (8 ≤ l → T lo ≠ 11) := by
  refine h (fun l lo hi p q => lo < hi ∧ (3 ≤ l → T lo < 8 → lo + 1 < hi → T (lo + 1) ≠ 19) ∧ (8 ≤ l → T lo ≠ 11)) ⟨?_, ?_, ?_, ?_, ?_, ?_, ?_, ?_, ?_⟩
  · intros; refine ⟨by omega, fun _ _ _ => by omega, fun _ => by omega⟩
  · intros; refine ⟨by omega, fun _ _ _ => by omega, fun _ => by omega⟩
  · intros; refine ⟨by omega, fun _ _ _ => by omega, fun _ => by omega⟩
  · intros; refine ⟨by omega, fun _ _ _ => by omega, fun _ => by omega⟩
  · intro lo m hi p p1 p2 h1 h2 h3 h4 h5
    have hl : 3 ≤ ll_ (T m) ∧ lv_ (T m) < 8 := by
      rcases h1 with e | e | e | e | e | e | e <;> rw [e] <;> decide
    refine ⟨by omega, fun _ a b => ?_, fun _ => by omega⟩
    rcases Nat.eq_or_lt_of_le (show lo + 1 ≤ m by omega) with z | z
    · rw [z]; unfold bo_ at h1; omega
    · exact h2.2.1 hl.1 a z
  · intros; refine ⟨by omega, fun _ _ _ => by omega, fun _ => by omega⟩
  · intro lo m c hi p p1 p2 p3 h1 h2 h3 h4 h5 h6 h7 h8 h9
    refine ⟨by omega, fun _ _ _ => by omega, fun _ => by omega⟩
  · intros; refine ⟨by omega, fun _ _ _ => by omega, fun _ => by omega⟩
  · intro l l' lo hi p q h1 h2
    exact ⟨h2.1, fun a => h2.2.1 (by omega), fun a => h2.2.2 (by omega)⟩
section
variable {gP gT gW gJ gV gE : Int32} {bD bG bP bW bL bT bO bH : Nat → Int32}
variable {post : Int32 → SY → Prop} {ps : SY → Prop} {T : Nat → Nat} {O A B : Nat → Int32} {N to sc n x J h lo hi m p q p1 q1 p2 q2 : Nat} {S : RR_} {e : Nat → Nat}
theorem y_later {w : Int32} {a b : Nat} (hJ : J < 160) (K : ps (gP, gT, gW, nI (J + 1), gV, gE, bD, bG, bP, bW, bL, upd bT J w, upd bO J (nI a), upd bH J (nI b))) : wpY_later ps (gP, gT, gW, nI J, gV, gE, bD, bG, bP, bW, bL, bT, bO, bH) w (nI a) (nI b) := by
  have i1 : vp_in (nI J) 160 := pk_in J 160 hJ
  have rJ : (nI J).toNatClampNeg = J := nI_clamp (by omega)
  exact ⟨i1, nm_r (e' := upd bT J w) (by rw [rJ]) ⟨i1, nm_r (e' := upd bO J (nI a)) (by rw [rJ]) ⟨i1, nm_r (e' := upd bH J (nI b)) (by rw [rJ]) (nm_r (nI_1 J) K)⟩⟩⟩
/-- no assignment: on to the cut -/
theorem y_r60 {r : Nat} (hT : tn_ T N bL) (hlo : lo < hi) (hh : hi ≤ N) (hna : T lo < 8 → lo + 1 < hi → T (lo + 1) ≠ 19)
    (K : wY_range_60 ps (nI lo) (nI hi) (nI (T lo)) (nI r) gP gT gW gJ gV gE bD bG bP bW bL bT bO bH) :
    ((8 ≤ nI (T lo) → wY_range_60 ps (nI lo) (nI hi) (nI (T lo)) (nI r) gP gT gW gJ gV gE bD bG bP bW bL bT bO bH) ∧ (¬ 8 ≤ nI (T lo) → ((nI hi ≤ nI lo + 1 → wY_range_60 ps (nI lo) (nI hi) (nI (T lo)) (nI r) gP gT gW gJ gV gE bD bG bP bW bL bT bO bH) ∧ (¬ nI hi ≤ nI lo + 1 → (vp_in (nI lo + 1) 40 ∧ ((bL (nI lo + 1).toNatClampNeg = 19 → wpY_later (fun u => match u with | (gP, gT, gW, gJ, gV, gE, bD, bG, bP, bW, bL, bT, bO, bH) => wpY_later (fun u => match u with | (gP, gT, gW, gJ, gV, gE, bD, bG, bP, bW, bL, bT, bO, bH) => ps (gP, gT, gW, gJ, gV, gE, bD, bG, bP, bW, bL, bT, bO, bH)) (gP, gT, gW, gJ, gV, gE, bD, bG, bP, bW, bL, bT, bO, bH) 0 (nI lo + 2) (nI hi)) (gP, gT, gW, gJ, gV, gE, bD, bG, bP, bW, bL, bT, bO, bH) 4 (nI (T lo)) 0) ∧ (¬ bL (nI lo + 1).toNatClampNeg = 19 → wY_range_60 ps (nI lo) (nI hi) (nI (T lo)) (nI r) gP gT gW gJ gV gE bD bG bP bW bL bT bO bH))))))) := by
  have h40 := hT.1
  have e2 := (hT.2 lo (by omega)).2
  refine pk_le 8 (T lo) (fun _ => K) (fun z => pk_le hi (lo + 1) (fun _ => K) (fun y => ⟨pk_in (lo + 1) 40 (by omega) (nI_1 lo), ?_⟩) rfl (nI_1 lo)) rfl rfl (by decide) (by omega)
  obtain ⟨f1, f2⟩ := hT.2 (lo + 1) (by omega)
  refine pk_eq (T (lo + 1)) 19 (fun w => absurd w (hna z y)) (fun _ => K) (by rw [nI_1, nI_clamp (by omega), f1]) rfl (by omega)
theorem yj_bin (hT : tn_ T N bL) (hl : G_ T O A B (ll_ (T m)) lo m p1 q1) (hr : G_ T O A B (rl_ (T m)) (m + 1) hi p2 q2) (hm : bo_ (T m)) (hh : hi ≤ N) (hJ : J + 3 < 160) (hx : x < 1000) (hj : je_ bT bO bH J 0 lo hi)
    (K : ∀ bT' bO' bH', ja_ bT bO bH bT' bO' bH' J → je_ bT' bO' bH' J 1 m hi → je_ bT' bO' bH' (J + 1) 0 (m + 1) hi → je_ bT' bO' bH' (J + 2) 0 lo m → wY_run_63 post (nI to) n (nI (x + 1)) (nI sc) gT gW (nI (J + 3)) (nI h) 0 (dn_A (rg_d S.1)) S.2.1 (dn_A S.2.2) (dn_A e) bL bT' bO' bH') :
    wY_run_63 post (nI to) (n + 1) (nI x) (nI sc) gT gW (nI (J + 1)) (nI h) 0 (dn_A (rg_d S.1)) S.2.1 (dn_A S.2.2) (dn_A e) bL bT bO bH := by
  have h40 := hT.1
  have g1 := na_G hl
  have g2 := na_G hr
  obtain ⟨c1, c2, c3, c4, c5, c6⟩ := bo_la hm
  have hl3 : 3 ≤ ll_ (T m) := by
    rcases hm with w | w | w | w | w | w | w <;> rw [w] <;> decide
  have hlm : lo_ (T m) < la_ (ll_ (T m)) ∨ (lo_ (T m) = la_ (ll_ (T m)) ∧ lo_ (T m) ≠ 1 ∧ lo_ (T m) ≠ 5) := by
    rcases hm with w | w | w | w | w | w | w <;> rw [w] <;> decide
  have hne : T m ≠ 21 ∧ T m ≠ 16 ∧ T m ≠ 17 ∧ T m ≠ 19 := by unfold bo_ at hm; omega
  obtain ⟨f1, f2⟩ := hT.2 m (by omega)
  have e2 := (hT.2 lo (by omega)).2
  have rm : bL (nI m).toNatClampNeg = nI (T m) := by rw [nI_clamp (by omega), f1]
  have im : vp_in (nI m) 40 := pk_in m 40 (by omega)
  refine pk_le 1000 x (fun z => by omega) (fun _ => pk_le (J + 1) 0 (fun z => by omega) (fun _ => br_t rfl ?_))
  refine nm_r (e' := nI J) (nI_pred J) ⟨pk_in J 160 (by omega), nm_r (e' := 0) (by rw [nI_clamp (by omega), hj.1]) ⟨pk_in J 160 (by omega), nm_r (e' := nI lo) (by rw [nI_clamp (by omega), hj.2.1]) ⟨pk_in J 160 (by omega), nm_r (e' := nI hi) (by rw [nI_clamp (by omega), hj.2.2]) (nm_r (e' := nI (7 + h)) (nI_add 7 _) ?_)⟩⟩⟩
  refine br_t rfl ⟨pk_in lo 40 (by omega), nm_r (e' := nI (T lo)) (by rw [nI_clamp (by omega), (hT.2 lo (by omega)).1]) ?_⟩
  refine y_cut2 hT hl hr hh hne.2.1 hne.2.2.1 (on_n (Or.inl hm)) c4 hlm (by omega) ?_
  refine y_r60 hT (by omega) hh (fun a b => ?_) ?_
  · rcases Nat.eq_or_lt_of_le (show lo + 1 ≤ m by omega) with z | z
    · rw [z]; exact hne.2.2.2
    · exact g1.2.1 hl3 a z
  · have g84 : wY_range_84 (fun u => match u with | (gP, gT, gW, gJ, gV, gE, bD, bG, bP, bW, bL, bT, bO, bH) => ∀ x3 : Int32, x3 = nI x + 1 → wY_run_63 post (nI to) n x3 gP gT gW gJ gV gE bD bG bP bW bL bT bO bH) (nI lo) (nI hi) (nI m) (nI sc) gT gW (nI J) (nI h) 0 (dn_A (rg_d S.1)) S.2.1 (dn_A S.2.2) (dn_A e) bL bT bO bH := by
      refine ⟨im, pk_eq (T m) 21 (fun z => absurd z hne.1) (fun _ => ?_) rm rfl (by omega)⟩
      refine y_later (by omega) ⟨im, pk_eq (T m) 21 (fun z => absurd z hne.1) (fun _ => ?_) rm rfl (by omega)⟩
      dsimp only
      rw [nI_1 m]
      refine y_later (by omega) (y_later (by omega) (nm_r (nI_1 x) (K _ _ _ ?_ ?_ ?_ ?_)))
      · exact ja_t (ja_t ja_u ja_u (Nat.le_succ _)) ja_u (by omega)
      · exact ja_e ja_u (by omega) (ja_e ja_u (by omega) je_u)
      · exact ja_e ja_u (by omega) je_u
      · exact je_u
    refine pk_le m lo (fun z => by omega) (fun _ => pk_eq (T lo) 11 (fun z => ⟨im, pk_eq (T m) 15 (fun y => ?_) (fun _ => g84) rm rfl (by omega)⟩) (fun _ => g84) rfl rfl (by omega))
    exact absurd z (g1.2.2 (by rw [y]; decide))
theorem y_cut3 {c : Nat} {pi : Int32 → Prop} (hT : tn_ T N bL) (hl : G_ T O A B 3 lo m p1 q1) (h4 : G_ T O A B 0 (m + 1) c p2 q2) (h5 : G_ T O A B 0 (c + 1) hi p q) (hm : T m = 21) (hc : T c = 22) (hh : hi ≤ N) (K : pi (nI m)) :
    wpY_cut pi (gP, gT, gW, gJ, gV, gE, bD, bG, bP, bW, bL, bT, bO, bH) (nI lo) (nI hi) := by
  have e1 : la_ 0 = 1 := rfl
  have er := sk_2 (l := 0) hT.1 (cw_9 (gP := gP) (gT := gT) (gW := gW) (gJ := gJ) (gV := gV) (gE := gE) (bD := bD) (bG := bG) (bP := bP) (bW := bW) (bT := bT) (bO := bO) (bH := bH) hT pi) (cw_o hT pi) (sk_G hT.1 (cw_9 hT pi) (cw_o hT pi) h4) (sk_G hT.1 (cw_9 hT pi) (cw_o hT pi) h5) (by omega) (by omega) (by rw [hc]; unfold on_; omega) (by rw [hc]; decide) (Nat.le_refl _) (Nat.le_refl _) (Or.inr (Or.inr (Or.inl e1)))
  exact ⟨1 + (hi - lo), ct_2 (W := fun lo0 hi0 n D b ls i => wY_cut_12 pi (nI lo0) (nI hi0) gP gT gW gJ gV gE bD bG bP bW bL bT bO bH n (nI D) (nI b) (nI ls) (nI i)) hT.1 (cw_9 hT pi) (cw_o hT pi) (sk_G hT.1 (cw_9 hT pi) (cw_o hT pi) hl) er hh (by omega) (by omega) (by rw [hm]; unfold on_; omega) (by rw [hm]; decide) (by rw [hm]; decide) (by rw [hm]; decide) 1 (cw_e hT hh K)⟩
theorem yj_cond {c : Nat} (hT : tn_ T N bL) (hl : G_ T O A B 3 lo m p1 q1) (h4 : G_ T O A B 0 (m + 1) c p2 q2) (h5 : G_ T O A B 0 (c + 1) hi p q) (hm : T m = 21) (hc : T c = 22) (hh : hi ≤ N) (hJ : J + 3 < 160) (hx : x < 1000) (hj : je_ bT bO bH J 0 lo hi)
    (K : ∀ bT' bO' bH', ja_ bT bO bH bT' bO' bH' J → je_ bT' bO' bH' J 2 m hi → je_ bT' bO' bH' (J + 1) 0 lo m → wY_run_63 post (nI to) n (nI (x + 1)) (nI sc) gT gW (nI (J + 2)) (nI h) 0 (dn_A (rg_d S.1)) S.2.1 (dn_A S.2.2) (dn_A e) bL bT' bO' bH') :
    wY_run_63 post (nI to) (n + 1) (nI x) (nI sc) gT gW (nI (J + 1)) (nI h) 0 (dn_A (rg_d S.1)) S.2.1 (dn_A S.2.2) (dn_A e) bL bT bO bH := by
  have h40 := hT.1
  have g1 := na_G hl
  have g2 := na_G h4
  have g3 := na_G h5
  obtain ⟨f1, f2⟩ := hT.2 m (by omega)
  have e2 := (hT.2 lo (by omega)).2
  have rm : bL (nI m).toNatClampNeg = nI (T m) := by rw [nI_clamp (by omega), f1]
  have im : vp_in (nI m) 40 := pk_in m 40 (by omega)
  refine pk_le 1000 x (fun z => by omega) (fun _ => pk_le (J + 1) 0 (fun z => by omega) (fun _ => br_t rfl ?_))
  refine nm_r (e' := nI J) (nI_pred J) ⟨pk_in J 160 (by omega), nm_r (e' := 0) (by rw [nI_clamp (by omega), hj.1]) ⟨pk_in J 160 (by omega), nm_r (e' := nI lo) (by rw [nI_clamp (by omega), hj.2.1]) ⟨pk_in J 160 (by omega), nm_r (e' := nI hi) (by rw [nI_clamp (by omega), hj.2.2]) (nm_r (e' := nI (7 + h)) (nI_add 7 _) ?_)⟩⟩⟩
  refine br_t rfl ⟨pk_in lo 40 (by omega), nm_r (e' := nI (T lo)) (by rw [nI_clamp (by omega), (hT.2 lo (by omega)).1]) ?_⟩
  refine y_cut3 hT hl h4 h5 hm hc hh ?_
  refine y_r60 hT (by omega) hh (fun a b => ?_) ?_
  · rcases Nat.eq_or_lt_of_le (show lo + 1 ≤ m by omega) with z | z
    · rw [z]; omega
    · exact g1.2.1 (Nat.le_refl _) a z
  · have g84 : wY_range_84 (fun u => match u with | (gP, gT, gW, gJ, gV, gE, bD, bG, bP, bW, bL, bT, bO, bH) => ∀ x3 : Int32, x3 = nI x + 1 → wY_run_63 post (nI to) n x3 gP gT gW gJ gV gE bD bG bP bW bL bT bO bH) (nI lo) (nI hi) (nI m) (nI sc) gT gW (nI J) (nI h) 0 (dn_A (rg_d S.1)) S.2.1 (dn_A S.2.2) (dn_A e) bL bT bO bH := by
      refine ⟨im, pk_eq (T m) 21 (fun _ => ?_) (fun z => absurd hm z) rm rfl (by omega)⟩
      refine y_later (by omega) ⟨im, pk_eq (T m) 21 (fun _ => ?_) (fun z => absurd hm z) rm rfl (by omega)⟩
      refine y_later (by omega) (nm_r (nI_1 x) (K _ _ _ ?_ ?_ ?_))
      · exact ja_t ja_u ja_u (Nat.le_succ _)
      · exact ja_e ja_u (by omega) je_u
      · exact je_u
    refine pk_le m lo (fun z => by omega) (fun _ => pk_eq (T lo) 11 (fun z => ⟨im, pk_eq (T m) 15 (fun y => by omega) (fun _ => g84) rm rfl (by omega)⟩) (fun _ => g84) rfl rfl (by omega))
theorem yj_asg (hT : tn_ T N bL) (hg : G_ T O A B 0 lo hi p1 q1) (hr : G_ T O A B 0 (lo + 2) hi p2 q2) (h8 : T lo < 8) (h19 : T (lo + 1) = 19) (hh : hi ≤ N) (hJ : J + 3 < 160) (hx : x < 1000) (hj : je_ bT bO bH J 0 lo hi)
    (K : ∀ bT' bO' bH', ja_ bT bO bH bT' bO' bH' J → je_ bT' bO' bH' J 4 (T lo) 0 → je_ bT' bO' bH' (J + 1) 0 (lo + 2) hi → wY_run_63 post (nI to) n (nI (x + 1)) (nI sc) gT gW (nI (J + 2)) (nI h) 0 (dn_A (rg_d S.1)) S.2.1 (dn_A S.2.2) (dn_A e) bL bT' bO' bH') :
    wY_run_63 post (nI to) (n + 1) (nI x) (nI sc) gT gW (nI (J + 1)) (nI h) 0 (dn_A (rg_d S.1)) S.2.1 (dn_A S.2.2) (dn_A e) bL bT bO bH := by
  have h40 := hT.1
  have g2 := na_G hr
  obtain ⟨f1, f2⟩ := hT.2 (lo + 1) (by omega)
  refine pk_le 1000 x (fun z => by omega) (fun _ => pk_le (J + 1) 0 (fun z => by omega) (fun _ => br_t rfl ?_))
  refine nm_r (e' := nI J) (nI_pred J) ⟨pk_in J 160 (by omega), nm_r (e' := 0) (by rw [nI_clamp (by omega), hj.1]) ⟨pk_in J 160 (by omega), nm_r (e' := nI lo) (by rw [nI_clamp (by omega), hj.2.1]) ⟨pk_in J 160 (by omega), nm_r (e' := nI hi) (by rw [nI_clamp (by omega), hj.2.2]) (nm_r (e' := nI (7 + h)) (nI_add 7 _) ?_)⟩⟩⟩
  refine br_t rfl ⟨pk_in lo 40 (by omega), nm_r (e' := nI (T lo)) (by rw [nI_clamp (by omega), (hT.2 lo (by omega)).1]) ?_⟩
  refine y_cuta hT hg hh (fun b hb => ?_)
  refine pk_le 8 (T lo) (fun z => by omega) (fun _ => pk_le hi (lo + 1) (fun z => by omega) (fun _ => ⟨pk_in (lo + 1) 40 (by omega) (nI_1 lo), pk_eq (T (lo + 1)) 19 (fun _ => ?_) (fun z => absurd h19 z) (by rw [nI_1, nI_clamp (by omega), f1]) rfl (by omega)⟩) rfl (nI_1 lo)) rfl rfl (by decide) (by omega)
  refine y_later (b := 0) (by omega) ?_
  dsimp only
  rw [show nI lo + 2 = nI (lo + 2) from nI_add lo 2]
  refine y_later (by omega) (nm_r (nI_1 x) (K _ _ _ ?_ ?_ ?_))
  · exact ja_t ja_u ja_u (Nat.le_succ _)
  · exact ja_e ja_u (by omega) je_u
  · exact je_u
theorem yj_neg (hT : tn_ T N bL) (hg : G_ T O A B 6 lo hi p1 q1) (h11 : T lo = 11) (hh : hi ≤ N) (hJ : J + 3 < 160) (hx : x < 1000) (hj : je_ bT bO bH J 0 lo hi)
    (K : ∀ bT' bO' bH', ja_ bT bO bH bT' bO' bH' J → je_ bT' bO' bH' J 3 lo hi → je_ bT' bO' bH' (J + 1) 0 (lo + 1) hi → wY_run_63 post (nI to) n (nI (x + 1)) (nI sc) gT gW (nI (J + 2)) (nI h) 0 (dn_A (rg_d S.1)) S.2.1 (dn_A S.2.2) (dn_A e) bL bT' bO' bH') :
    wY_run_63 post (nI to) (n + 1) (nI x) (nI sc) gT gW (nI (J + 1)) (nI h) 0 (dn_A (rg_d S.1)) S.2.1 (dn_A S.2.2) (dn_A e) bL bT bO bH := by
  have h40 := hT.1
  have g2 := na_G hg
  refine pk_le 1000 x (fun z => by omega) (fun _ => pk_le (J + 1) 0 (fun z => by omega) (fun _ => br_t rfl ?_))
  refine nm_r (e' := nI J) (nI_pred J) ⟨pk_in J 160 (by omega), nm_r (e' := 0) (by rw [nI_clamp (by omega), hj.1]) ⟨pk_in J 160 (by omega), nm_r (e' := nI lo) (by rw [nI_clamp (by omega), hj.2.1]) ⟨pk_in J 160 (by omega), nm_r (e' := nI hi) (by rw [nI_clamp (by omega), hj.2.2]) (nm_r (e' := nI (7 + h)) (nI_add 7 _) ?_)⟩⟩⟩
  refine br_t rfl ⟨pk_in lo 40 (by omega), nm_r (e' := nI (T lo)) (by rw [nI_clamp (by omega), (hT.2 lo (by omega)).1]) ?_⟩
  refine y_cut6 hT hg hh (fun b hb => y_r60 hT (by omega) hh (fun a _ => by omega) ?_)
  have g141 : wY_range_141 (fun u => match u with | (gP, gT, gW, gJ, gV, gE, bD, bG, bP, bW, bL, bT, bO, bH) => ∀ x3 : Int32, x3 = nI x + 1 → wY_run_63 post (nI to) n x3 gP gT gW gJ gV gE bD bG bP bW bL bT bO bH) (nI lo) (nI hi) (nI (T lo)) (nI sc) gT gW (nI J) (nI h) 0 (dn_A (rg_d S.1)) S.2.1 (dn_A S.2.2) (dn_A e) bL bT bO bH := by
    refine pk_eq (T lo) 11 (fun _ => y_later (by omega) ?_) (fun z => absurd h11 z) rfl rfl (by omega)
    dsimp only
    rw [nI_1 lo]
    refine y_later (by omega) (nm_r (nI_1 x) (K _ _ _ ?_ ?_ ?_))
    · exact ja_t ja_u ja_u (Nat.le_succ _)
    · exact ja_e ja_u (by omega) je_u
    · exact je_u
  rcases hb with z | ⟨z1, z2, z3⟩
  · subst z
    exact br_t (nI_le (Nat.le_refl _) (by omega)) g141
  · obtain ⟨f1, f2⟩ := hT.2 b (by omega)
    refine pk_le b lo (fun _ => g141) (fun _ => pk_eq (T lo) 11 (fun _ => ⟨pk_in b 40 (by omega), pk_eq (T b) 15 (fun _ => g141) (fun z => absurd z1 z) (by rw [nI_clamp (by omega), f1]) rfl (by omega)⟩) (fun z => absurd h11 z) rfl rfl (by omega))
theorem yj_8 (hT : tn_ T N bL) (hg : G_ T O A B 8 lo hi p1 q1) (hh : hi ≤ N) (hJ : J + 3 < 160) (hx : x < 1000) (hj : je_ bT bO bH J 0 lo hi)
    (K : wY_range_141 (fun u => match u with | (gP, gT, gW, gJ, gV, gE, bD, bG, bP, bW, bL, bT, bO, bH) => ∀ x3 : Int32, x3 = nI x + 1 → wY_run_63 post (nI to) n x3 gP gT gW gJ gV gE bD bG bP bW bL bT bO bH) (nI lo) (nI hi) (nI (T lo)) (nI sc) gT gW (nI J) (nI h) 0 (dn_A (rg_d S.1)) S.2.1 (dn_A S.2.2) (dn_A e) bL bT bO bH) :
    wY_run_63 post (nI to) (n + 1) (nI x) (nI sc) gT gW (nI (J + 1)) (nI h) 0 (dn_A (rg_d S.1)) S.2.1 (dn_A S.2.2) (dn_A e) bL bT bO bH := by
  have h40 := hT.1
  have g2 := na_G hg
  refine pk_le 1000 x (fun z => by omega) (fun _ => pk_le (J + 1) 0 (fun z => by omega) (fun _ => br_t rfl ?_))
  refine nm_r (e' := nI J) (nI_pred J) ⟨pk_in J 160 (by omega), nm_r (e' := 0) (by rw [nI_clamp (by omega), hj.1]) ⟨pk_in J 160 (by omega), nm_r (e' := nI lo) (by rw [nI_clamp (by omega), hj.2.1]) ⟨pk_in J 160 (by omega), nm_r (e' := nI hi) (by rw [nI_clamp (by omega), hj.2.2]) (nm_r (e' := nI (7 + h)) (nI_add 7 _) ?_)⟩⟩⟩
  refine br_t rfl ⟨pk_in lo 40 (by omega), nm_r (e' := nI (T lo)) (by rw [nI_clamp (by omega), (hT.2 lo (by omega)).1]) ?_⟩
  refine y_cut8 hT hg hh (y_r60 hT (by omega) hh (fun a b => g2.2.1 (by decide) a b) ?_)
  exact br_t (nI_le (Nat.le_refl _) (by omega)) K
theorem yj_par (hT : tn_ T N bL) (hg : G_ T O A B 8 lo (hi + 1) p1 q1) (h16 : T lo = 16) (hh : hi + 1 ≤ N) (hJ : J + 3 < 160) (hx : x < 1000) (hj : je_ bT bO bH J 0 lo (hi + 1))
    (K : ∀ bT' bO' bH', ja_ bT bO bH bT' bO' bH' J → je_ bT' bO' bH' J 0 (lo + 1) hi → wY_run_63 post (nI to) n (nI (x + 1)) (nI sc) gT gW (nI (J + 1)) (nI h) 0 (dn_A (rg_d S.1)) S.2.1 (dn_A S.2.2) (dn_A e) bL bT' bO' bH') :
    wY_run_63 post (nI to) (n + 1) (nI x) (nI sc) gT gW (nI (J + 1)) (nI h) 0 (dn_A (rg_d S.1)) S.2.1 (dn_A S.2.2) (dn_A e) bL bT bO bH := by
  refine yj_8 hT hg hh hJ hx hj ?_
  rw [h16]
  refine br_f (by decide) (br_f (by decide) (br_t rfl ?_))
  rw [nI_1 lo, nI_pred hi]
  exact y_later (by omega) (nm_r (nI_1 x) (K _ _ _ ja_u je_u))
theorem yj_sqr (hT : tn_ T N bL) (hg : G_ T O A B 8 lo (hi + 1) p1 q1) (h18 : T lo = 18) (hh : hi + 1 ≤ N) (hJ : J + 3 < 160) (hx : x < 1000) (hj : je_ bT bO bH J 0 lo (hi + 1))
    (K : ∀ bT' bO' bH', ja_ bT bO bH bT' bO' bH' J → je_ bT' bO' bH' J 1 lo (hi + 1) → je_ bT' bO' bH' (J + 1) 0 (lo + 2) hi → wY_run_63 post (nI to) n (nI (x + 1)) (nI sc) gT gW (nI (J + 2)) (nI h) 0 (dn_A (rg_d S.1)) S.2.1 (dn_A S.2.2) (dn_A e) bL bT' bO' bH') :
    wY_run_63 post (nI to) (n + 1) (nI x) (nI sc) gT gW (nI (J + 1)) (nI h) 0 (dn_A (rg_d S.1)) S.2.1 (dn_A S.2.2) (dn_A e) bL bT bO bH := by
  refine yj_8 hT hg hh hJ hx hj ?_
  rw [h18]
  refine br_f (by decide) (br_t rfl (y_later (by omega) ?_))
  dsimp only
  rw [show nI lo + 2 = nI (lo + 2) from nI_add lo 2, nI_pred hi]
  refine y_later (by omega) (nm_r (nI_1 x) (K _ _ _ ?_ ?_ ?_))
  · exact ja_t ja_u ja_u (Nat.le_succ _)
  · exact ja_e ja_u (by omega) je_u
  · exact je_u
theorem yj_reg (hS : wf_ S) (hT : tn_ T N bL) (hg : G_ T O A B 8 lo hi p1 q1) (h8 : T lo < 8) (hh : hi ≤ N) (hJ : J + 3 < 160) (hx : x < 1000) (hj : je_ bT bO bH J 0 lo hi) (hv : h < 20)
    (K : ∀ e', wY_run_63 post (nI to) n (nI (x + 1)) (nI sc) gT gW (nI J) (nI (h + 1)) 0 (dn_A (rg_d (dp_ S (T lo) (8 + h)).1)) ((dp_ S (T lo) (8 + h)).2.1) (dn_A (dp_ S (T lo) (8 + h)).2.2) (dn_A e') bL bT bO bH) :
    wY_run_63 post (nI to) (n + 1) (nI x) (nI sc) gT gW (nI (J + 1)) (nI h) 0 (dn_A (rg_d S.1)) S.2.1 (dn_A S.2.2) (dn_A e) bL bT bO bH := by
  refine yj_8 hT hg hh hJ hx hj ?_
  refine pk_eq (T lo) 11 (fun z => by omega) (fun _ => pk_eq (T lo) 18 (fun z => by omega) (fun _ => pk_eq (T lo) 16 (fun z => by omega) (fun _ => pk_le 8 (T lo) (fun z => by omega) (fun _ => ?_))))
  rw [show (8 : Int32) + nI h = nI (8 + h) from nI_add 8 h]
  exact y_same hS (T lo) (8 + h) (by omega) (by omega) (fun e1 => nm_r (nI_1 h) (nm_r (nI_1 x) (K e1)))
theorem ar_3 {e : Nat → Nat} {v : Nat} (hv : v < 1000) (z1 : ∀ j, 128 * 0 ≤ j → j < 128 * 0 + 128 → e j = 0) : ar_ (dn_u (dn_u (dn_u e 0 (v % 10)) 1 (v / 10 % 10)) 2 (v / 100 % 10)) 0 v := by
  refine ar_of (Nat.lt_of_lt_of_le hv (Nat.pow_le_pow_right (n := 10) (by decide) (show 3 ≤ 128 by decide))) (fun k hk => ?_)
  rw [Nat.mul_zero, Nat.zero_add]
  by_cases z0 : k = 0
  · subst z0; rw [dn_un (by decide), dn_un (by decide), dn_us, Nat.pow_zero, Nat.div_one]
  · by_cases z2 : k = 1
    · subst z2; rw [dn_un (by decide), dn_us, Nat.pow_one]
    · by_cases z3 : k = 2
      · subst z3; rw [dn_us]
      · rw [dn_un z3, dn_un z2, dn_un z0, z1 _ (by omega) (by omega)]
        have : 10 ^ 3 ≤ 10 ^ k := Nat.pow_le_pow_right (by decide) (by omega)
        rw [Nat.div_eq_of_lt (by omega)]
theorem yj_num {v : Nat} (hT : tn_ T N bL) (hg : G_ T O A B 8 lo hi p1 q1) (hv : T lo = 1000 + v) (hv2 : v < 1000) (hh : hi ≤ N) (hJ : J + 3 < 160) (hx : x < 1000) (hj : je_ bT bO bH J 0 lo hi) (hvh : h < 20)
    (K : ∀ e', wY_run_63 post (nI to) n (nI (x + 1)) (nI sc) gT gW (nI J) (nI (h + 1)) 0 (dn_A (rg_d (st_R S (8 + h) v 1 0).1)) ((st_R S (8 + h) v 1 0).2.1) (dn_A (st_R S (8 + h) v 1 0).2.2) (dn_A e') bL bT bO bH) :
    wY_run_63 post (nI to) (n + 1) (nI x) (nI sc) gT gW (nI (J + 1)) (nI h) 0 (dn_A (rg_d S.1)) S.2.1 (dn_A S.2.2) (dn_A e) bL bT bO bH := by
  refine yj_8 hT hg hh hJ hx hj ?_
  refine pk_eq (T lo) 11 (fun z => by omega) (fun _ => pk_eq (T lo) 18 (fun z => by omega) (fun _ => pk_eq (T lo) 16 (fun z => by omega) (fun _ => pk_le 8 (T lo) (fun _ => ?_) (fun z => by omega) rfl rfl (by decide) (by omega)) rfl rfl (by omega)) rfl rfl (by omega)) rfl rfl (by omega)
  refine y_zero 0 (by decide) (fun e1 a1 z1 f1 => ⟨by decide, nm_r (e' := dn_A (dn_u e1 0 (v % 10))) ?_ ⟨by decide, by decide, nm_r (e' := dn_A (dn_u (dn_u e1 0 (v % 10)) 1 (v / 10 % 10))) ?_ ⟨by decide, by decide, nm_r (e' := dn_A (dn_u (dn_u (dn_u e1 0 (v % 10)) 1 (v / 10 % 10)) 2 (v / 100 % 10))) ?_ ?_⟩⟩⟩)
  · rw [show (10 : Int32) = nI 10 from rfl, pk_rem (by omega) (by decide) (by decide), show T lo % 10 = v % 10 by omega]; exact dn_up
  · rw [show (10 : Int32) = nI 10 from rfl, pk_div (by omega) (by decide) (by decide), pk_rem (by omega) (by decide) (by decide), show T lo / 10 % 10 = v / 10 % 10 by omega]; exact dn_up
  · rw [show (100 : Int32) = nI 100 from rfl, show (10 : Int32) = nI 10 from rfl, pk_div (by omega) (by decide) (by decide), pk_rem (by omega) (by decide) (by decide), show T lo / 100 % 10 = v / 100 % 10 by omega]; exact dn_up
  · rw [show (8 : Int32) + nI h = nI (8 + h) from nI_add 8 h]
    refine y_keep (n := 0) 0 (8 + h) (by decide) (ar_3 hv2 z1) (by omega) (by decide) ?_
    have hl : ¬ (10 ^ 40 ≤ v ∨ 20 < 0) := by
      have : (1000 : Nat) < 10 ^ 40 := by decide
      omega
    unfold sr_
    rw [if_neg hl]
    exact nm_r (nI_1 h) (nm_r (nI_1 x) (K _))
/-- the operator at a place, on the last two values -/
theorem yj_op (hS : wf_ S) (hT : tn_ T N bL) (hsc : sc ≤ 16) (hm : bo_ (T m)) (hmN : m < N) (hJ : J + 3 < 160) (hx : x < 1000) (hj : je_ bT bO bH J 1 m hi) (hv : h < 19)
    (K1 : -1 ≤ (o_bin S sc (T m) (8 + h) (8 + (h + 1))).1 → ∀ e' S', wf_ S' → ag_ (o_bin S sc (T m) (8 + h) (8 + (h + 1))).2 S' → wY_run_63 post (nI to) n (nI (x + 1)) (nI sc) gT gW (nI J) (nI (h + 1)) 0 (dn_A (rg_d S'.1)) S'.2.1 (dn_A S'.2.2) (dn_A e') bL bT bO bH)
    (K2 : ¬ -1 ≤ (o_bin S sc (T m) (8 + h) (8 + (h + 1))).1 → ∀ e' S', wf_ S' → ag_ (o_bin S sc (T m) (8 + h) (8 + (h + 1))).2 S' → wY_run_63 post (nI to) n (nI (x + 1)) (nI sc) gT (nI m) (nI J) (nI (h + 1)) ((o_bin S sc (T m) (8 + h) (8 + (h + 1))).1) (dn_A (rg_d S'.1)) S'.2.1 (dn_A S'.2.2) (dn_A e') bL bT bO bH) :
    wY_run_63 post (nI to) (n + 1) (nI x) (nI sc) gT gW (nI (J + 1)) (nI (h + 2)) 0 (dn_A (rg_d S.1)) S.2.1 (dn_A S.2.2) (dn_A e) bL bT bO bH := by
  have h40 := hT.1
  obtain ⟨f1, f2⟩ := hT.2 m hmN
  have h18 : ¬ T m = 18 := by unfold bo_ at hm; omega
  refine pk_le 1000 x (fun z => by omega) (fun _ => pk_le (J + 1) 0 (fun z => by omega) (fun _ => br_t rfl ?_))
  refine nm_r (e' := nI J) (nI_pred J) ⟨pk_in J 160 (by omega), nm_r (e' := 1) (by rw [nI_clamp (by omega), hj.1]) ⟨pk_in J 160 (by omega), nm_r (e' := nI m) (by rw [nI_clamp (by omega), hj.2.1]) ⟨pk_in J 160 (by omega), nm_r (e' := nI hi) (by rw [nI_clamp (by omega), hj.2.2]) (nm_r (e' := nI (7 + (h + 2))) (nI_add 7 _) ?_)⟩⟩⟩
  refine br_f (by decide) (br_t rfl ⟨pk_in m 40 (by omega), nm_r (e' := nI (T m)) (by rw [nI_clamp (by omega), f1]) (pk_eq (T m) 18 (fun z => absurd z h18) (fun _ => nm_r (e' := nI (h + 1)) (nI_pred (h + 1)) ?_) rfl rfl (by omega))⟩)
  refine nm_r (e' := nI (8 + h)) (by rw [show (7 : Int32) = nI 7 from rfl, nI_add]; exact congrArg nI (by omega)) (pk_eq (T m) 18 (fun z => absurd z h18) (fun _ => ?_) rfl rfl (by omega))
  have fin : ∀ e' S' (ans : Int32), wf_ S' → ag_ (o_bin S sc (T m) (8 + h) (8 + (h + 1))).2 S' → (ans = (o_bin S sc (T m) (8 + h) (8 + (h + 1))).1 ∨ (-1 ≤ ans ∧ -1 ≤ (o_bin S sc (T m) (8 + h) (8 + (h + 1))).1)) →
      wY_operate_66 (fun u => match u with | (gP, gT, gW, gJ, gV, gE, bD, bG, bP, bW, bL, bT, bO, bH) => ∀ x3 : Int32, x3 = nI x + 1 → wY_run_63 post (nI to) n x3 gP gT gW gJ gV gE bD bG bP bW bL bT bO bH) (nI m) ans (nI sc) gT gW (nI J) (nI (h + 1)) 0 (dn_A (rg_d S'.1)) S'.2.1 (dn_A S'.2.2) (dn_A e') bL bT bO bH := by
    intro e' S' ans w1 w2 w3
    refine br_c (fun z => nm_r (nI_1 x) (K1 ?_ e' S' w1 w2)) (fun z => nm_r (nI_1 x) ?_)
    · rcases w3 with q | q
      · rw [← q]; exact z
      · exact q.2
    · have q : ans = (o_bin S sc (T m) (8 + h) (8 + (h + 1))).1 := by
        rcases w3 with q | q
        · exact q
        · exact absurd q.1 z
      rw [q] at z ⊢
      exact K2 z e' S' w1 w2
  refine pk_eq (T m) 15 (fun z => ?_) (fun z => ?_) rfl rfl (by omega)
  · rw [z] at fin
    exact y_lift hS sc (8 + h) (8 + (h + 1)) hsc (by omega) (by omega) rfl (fun e' S' w1 w2 => fin e' S' _ w1 w2 (Or.inl rfl))
  · exact y_bin hS sc (T m) (8 + h) (8 + (h + 1)) hm z hsc (by omega) (by omega) rfl fin
theorem yj_rt (hS : wf_ S) (hT : tn_ T N bL) (hsc : sc ≤ 16) (hm : T m = 18) (hmN : m < N) (hJ : J + 3 < 160) (hx : x < 1000) (hj : je_ bT bO bH J 1 m hi) (hv : h < 20)
    (K1 : -1 ≤ (o_root S sc (8 + h) (8 + h)).1 → ∀ e', wY_run_63 post (nI to) n (nI (x + 1)) (nI sc) gT gW (nI J) (nI (h + 1)) 0 (dn_A (rg_d ((o_root S sc (8 + h) (8 + h)).2).1)) (((o_root S sc (8 + h) (8 + h)).2).2.1) (dn_A ((o_root S sc (8 + h) (8 + h)).2).2.2) (dn_A e') bL bT bO bH)
    (K2 : ¬ -1 ≤ (o_root S sc (8 + h) (8 + h)).1 → ∀ e', wY_run_63 post (nI to) n (nI (x + 1)) (nI sc) gT (nI m) (nI J) (nI (h + 1)) ((o_root S sc (8 + h) (8 + h)).1) (dn_A (rg_d ((o_root S sc (8 + h) (8 + h)).2).1)) (((o_root S sc (8 + h) (8 + h)).2).2.1) (dn_A ((o_root S sc (8 + h) (8 + h)).2).2.2) (dn_A e') bL bT bO bH) :
    wY_run_63 post (nI to) (n + 1) (nI x) (nI sc) gT gW (nI (J + 1)) (nI (h + 1)) 0 (dn_A (rg_d S.1)) S.2.1 (dn_A S.2.2) (dn_A e) bL bT bO bH := by
  have h40 := hT.1
  obtain ⟨f1, f2⟩ := hT.2 m hmN
  refine pk_le 1000 x (fun z => by omega) (fun _ => pk_le (J + 1) 0 (fun z => by omega) (fun _ => br_t rfl ?_))
  refine nm_r (e' := nI J) (nI_pred J) ⟨pk_in J 160 (by omega), nm_r (e' := 1) (by rw [nI_clamp (by omega), hj.1]) ⟨pk_in J 160 (by omega), nm_r (e' := nI m) (by rw [nI_clamp (by omega), hj.2.1]) ⟨pk_in J 160 (by omega), nm_r (e' := nI hi) (by rw [nI_clamp (by omega), hj.2.2]) (nm_r (e' := nI (7 + (h + 1))) (nI_add 7 _) ?_)⟩⟩⟩
  refine br_f (by decide) (br_t rfl ⟨pk_in m 40 (by omega), nm_r (e' := nI (T m)) (by rw [nI_clamp (by omega), f1]) (pk_eq (T m) 18 (fun _ => ?_) (fun z => absurd hm z) rfl rfl (by omega))⟩)
  refine nm_r (e' := nI (8 + h)) (by rw [show (7 : Int32) = nI 7 from rfl, nI_add]; exact congrArg nI (by omega)) (pk_eq (T m) 18 (fun _ => ?_) (fun z => absurd hm z) rfl rfl (by omega))
  exact y_root hS sc (8 + h) (8 + h) hsc (by omega) (by omega) (fun e1 => br_c (fun z => nm_r (nI_1 x) (K1 z e1)) (fun z => nm_r (nI_1 x) (K2 z e1)))
theorem yj_ch {c : Nat} (hT : tn_ T N bL) (hg : G_ T O A B 0 (m + 1) c p1 q1) (hc : T c = 22) (hcN : c < N) (hJ : J + 3 < 160) (hx : x < 1000) (hj : je_ bT bO bH J 2 m hi) (hv : h < 20)
    (K1 : S.2.1 (8 + h) = 0 → ∀ bT' bO' bH', ja_ bT bO bH bT' bO' bH' J → je_ bT' bO' bH' J 0 (c + 1) hi → wY_run_63 post (nI to) n (nI (x + 1)) (nI sc) gT gW (nI (J + 1)) (nI h) 0 (dn_A (rg_d S.1)) S.2.1 (dn_A S.2.2) (dn_A e) bL bT' bO' bH')
    (K2 : ¬ S.2.1 (8 + h) = 0 → ∀ bT' bO' bH', ja_ bT bO bH bT' bO' bH' J → je_ bT' bO' bH' J 0 (m + 1) c → wY_run_63 post (nI to) n (nI (x + 1)) (nI sc) gT gW (nI (J + 1)) (nI h) 0 (dn_A (rg_d S.1)) S.2.1 (dn_A S.2.2) (dn_A e) bL bT' bO' bH') :
    wY_run_63 post (nI to) (n + 1) (nI x) (nI sc) gT gW (nI (J + 1)) (nI (h + 1)) 0 (dn_A (rg_d S.1)) S.2.1 (dn_A S.2.2) (dn_A e) bL bT bO bH := by
  have h40 := hT.1
  have g2 := na_G hg
  refine pk_le 1000 x (fun z => by omega) (fun _ => pk_le (J + 1) 0 (fun z => by omega) (fun _ => br_t rfl ?_))
  refine nm_r (e' := nI J) (nI_pred J) ⟨pk_in J 160 (by omega), nm_r (e' := 2) (by rw [nI_clamp (by omega), hj.1]) ⟨pk_in J 160 (by omega), nm_r (e' := nI m) (by rw [nI_clamp (by omega), hj.2.1]) ⟨pk_in J 160 (by omega), nm_r (e' := nI hi) (by rw [nI_clamp (by omega), hj.2.2]) (nm_r (e' := nI (7 + (h + 1))) (nI_add 7 _) ?_)⟩⟩⟩
  refine br_f (by decide) (br_f (by decide) (br_t rfl (y_colon hT hg hc hcN (nm_r (e' := nI h) (nI_pred h) ⟨pk_in (7 + (h + 1)) 32 (by omega), ?_⟩))))
  rw [nI_clamp (by omega), show 7 + (h + 1) = 8 + h by omega, nI_1 c, nI_1 m]
  exact br_c (fun z => y_later (by omega) (nm_r (nI_1 x) (K1 z _ _ _ ja_u je_u))) (fun z => y_later (by omega) (nm_r (nI_1 x) (K2 z _ _ _ ja_u je_u)))
theorem yj_ng (hJ : J + 3 < 160) (hx : x < 1000) (hj : je_ bT bO bH J 3 lo hi) (hv : h < 20)
    (K : wY_run_63 post (nI to) n (nI (x + 1)) (nI sc) gT gW (nI J) (nI (h + 1)) 0 (dn_A (rg_d ((S.1, upd S.2.1 (8 + h) (-S.2.1 (8 + h)), S.2.2)).1)) (((S.1, upd S.2.1 (8 + h) (-S.2.1 (8 + h)), S.2.2)).2.1) (dn_A ((S.1, upd S.2.1 (8 + h) (-S.2.1 (8 + h)), S.2.2)).2.2) (dn_A e) bL bT bO bH) :
    wY_run_63 post (nI to) (n + 1) (nI x) (nI sc) gT gW (nI (J + 1)) (nI (h + 1)) 0 (dn_A (rg_d S.1)) S.2.1 (dn_A S.2.2) (dn_A e) bL bT bO bH := by
  refine pk_le 1000 x (fun z => by omega) (fun _ => pk_le (J + 1) 0 (fun z => by omega) (fun _ => br_t rfl ?_))
  refine nm_r (e' := nI J) (nI_pred J) ⟨pk_in J 160 (by omega), nm_r (e' := 3) (by rw [nI_clamp (by omega), hj.1]) ⟨pk_in J 160 (by omega), nm_r (e' := nI lo) (by rw [nI_clamp (by omega), hj.2.1]) ⟨pk_in J 160 (by omega), nm_r (e' := nI hi) (by rw [nI_clamp (by omega), hj.2.2]) (nm_r (e' := nI (7 + (h + 1))) (nI_add 7 _) ?_)⟩⟩⟩
  refine br_f (by decide) (br_f (by decide) (br_f (by decide) (br_t rfl ⟨pk_in (7 + (h + 1)) 32 (by omega), pk_in (7 + (h + 1)) 32 (by omega), nm_r (e' := upd S.2.1 (8 + h) (-S.2.1 (8 + h))) (by rw [nI_clamp (by omega), show 7 + (h + 1) = 8 + h by omega]) (nm_r (nI_1 x) K)⟩)))
theorem yj_put {r : Nat} (hS : wf_ S) (hJ : J + 3 < 160) (hx : x < 1000) (hj : je_ bT bO bH J 4 r hi) (hr : r < 28) (hv : h < 20)
    (K : ∀ e', wY_run_63 post (nI to) n (nI (x + 1)) (nI sc) gT gW (nI J) (nI (h + 1)) 0 (dn_A (rg_d (dp_ S (8 + h) r).1)) ((dp_ S (8 + h) r).2.1) (dn_A (dp_ S (8 + h) r).2.2) (dn_A e') bL bT bO bH) :
    wY_run_63 post (nI to) (n + 1) (nI x) (nI sc) gT gW (nI (J + 1)) (nI (h + 1)) 0 (dn_A (rg_d S.1)) S.2.1 (dn_A S.2.2) (dn_A e) bL bT bO bH := by
  refine pk_le 1000 x (fun z => by omega) (fun _ => pk_le (J + 1) 0 (fun z => by omega) (fun _ => br_t rfl ?_))
  refine nm_r (e' := nI J) (nI_pred J) ⟨pk_in J 160 (by omega), nm_r (e' := 4) (by rw [nI_clamp (by omega), hj.1]) ⟨pk_in J 160 (by omega), nm_r (e' := nI r) (by rw [nI_clamp (by omega), hj.2.1]) ⟨pk_in J 160 (by omega), nm_r (e' := nI hi) (by rw [nI_clamp (by omega), hj.2.2]) (nm_r (e' := nI (7 + (h + 1))) (nI_add 7 _) ?_)⟩⟩⟩
  refine br_f (by decide) (br_f (by decide) (br_f (by decide) (br_f (by decide) ?_)))
  rw [show 7 + (h + 1) = 8 + h by omega]
  exact y_same hS (8 + h) r (by omega) (by omega) (fun e1 => nm_r (nI_1 x) (K e1))
end
end
section
/-! the component's code and the reference's jobs do the same -/
theorem ag_r {R : RR_} : ag_ R R := fun _ _ => ⟨rfl, rfl, rfl⟩
theorem ag_t {R S U : RR_} (h : ag_ R S) (g : ag_ S U) : ag_ R U := fun r hr => by
  obtain ⟨a1, a2, a3⟩ := h r hr
  obtain ⟨b1, b2, b3⟩ := g r hr
  exact ⟨a1.trans b1, a2.trans b2, a3.trans b3⟩
section
variable {fS fC fA fP fW fE fN fT : Int32} {aL aG aC aT aO aR aA aK aH aB aW : Nat → Int32}
variable {gP gT gW gJ gV gE : Int32} {bD bG bP bW bL bT bO bH : Nat → Int32}
variable {T : Nat → Nat} {N to sc pe lo hi m c p q p1 p2 p3 v : Nat}
theorem ex_reg (hT : tn_ T N bL) (hpe : pe ≤ 99) (hG : G_ T aO aR aA 8 lo (lo + 1) p (p + 1)) (h1 : T lo < 8) (h2 : aO p = 31) (h3 : aR p = nI (T lo)) (hN : lo + 1 ≤ N) (hq : p + 1 ≤ pe) : ∀ (R : RR_) (h : Nat), wf_ R → 2 * h + ((lo + 1) - lo) ≤ 40 → ∃ (o : Option (Int32 × Nat)) (R1 : RR_), wf_ R1 ∧ (∀ (er : Int32) (ps : Nat), o = some (er, ps) → ¬ -1 ≤ er) ∧ (∃ K : Nat, ∀ (post : Int32 → SX → Prop) (n : Nat) (d : Nat → Nat), bd_ d → (o = none → ∀ d', bd_ d' → wX_execute_10 post (nI pe) n (nI (8 + (h + 1))) (nI (p + 1)) (nI sc) fC fA fP fW fE fN fT (dn_A (rg_l R1.1)) R1.2.1 (dn_A R1.2.2) aT aO aR aA aK aH aB (dn_A d')) → (∀ (er : Int32) (ps : Nat), o = some (er, ps) → ∀ d', bd_ d' → post er (nI sc, fC, fA, fP, fW, nI ps, fN, fT, dn_A (rg_l R1.1), R1.2.1, dn_A R1.2.2, aT, aO, aR, aA, aK, aH, aB, dn_A d')) → wX_execute_10 post (nI pe) (n + K) (nI (8 + h)) (nI p) (nI sc) fC fA fP fW fE fN fT (dn_A (rg_l R.1)) R.2.1 (dn_A R.2.2) aT aO aR aA aK aH aB (dn_A d)) ∧ (∃ K : Nat, K ≤ 3 * ((lo + 1) - lo) ∧ ∀ (post : Int32 → SY → Prop) (J : Nat) (bT bO bH : Nat → Int32) (e : Nat → Nat) (x n : Nat) (S : RR_), wf_ S → ag_ R S → J + 3 + 2 * ((lo + 1) - lo) < 160 → x + 3 * ((lo + 1) - lo) ≤ 1000 → je_ bT bO bH J 0 lo (lo + 1) → (o = none → ∀ e' S' bT' bO' bH', wf_ S' → ag_ R1 S' → ja_ bT bO bH bT' bO' bH' J → wY_run_63 post (nI to) n (nI (x + K)) (nI sc) gT gW (nI J) (nI (h + 1)) 0 (dn_A (rg_d S'.1)) S'.2.1 (dn_A S'.2.2) (dn_A e') bL bT' bO' bH') → (∀ (er : Int32) (ps : Nat), o = some (er, ps) → ∀ e' S' (x' j' v' : Int32) bT' bO' bH', wf_ S' → ag_ R1 S' → wY_run_63 post (nI to) n x' (nI sc) gT (nI ps) j' v' er (dn_A (rg_d S'.1)) S'.2.1 (dn_A S'.2.2) (dn_A e') bL bT' bO' bH') → wY_run_63 post (nI to) (n + K) (nI x) (nI sc) gT gW (nI (J + 1)) (nI h) 0 (dn_A (rg_d S.1)) S.2.1 (dn_A S.2.2) (dn_A e) bL bT bO bH) := by
  intro R h wR hh
  refine ⟨none, dp_ R (T lo) (8 + h), wf_dp wR, fun er ps z => (by cases z), ⟨1, fun post n d hd kn ke => xs_ld wR (by omega) hpe h2 h3 (by omega) (by omega) (kn rfl d hd)⟩, ⟨1, by omega, fun post J bT bO bH e x n S wS aS hJ hx hj kn ke => yj_reg wS hT hG h1 hN (by omega) (by omega) hj (by omega) (fun e' => kn rfl e' _ bT bO bH (wf_dp wS) (ag_dp aS _ (by omega)) ja_r)⟩⟩
theorem wf_v {R : RR_} {t v : Nat} (h : wf_ R) (hv : v < 1000) : wf_ (st_R R t v 1 0) :=
  wf_st h (Nat.lt_of_lt_of_le hv (Nat.pow_le_pow_right (n := 10) (by decide) (show 3 ≤ 40 by decide))) sn_1 (fun _ q => absurd q (by decide)) (by decide)
theorem ex_num (hT : tn_ T N bL) (hpe : pe ≤ 99) (hG : G_ T aO aR aA 8 lo (lo + 1) p (p + 1)) (h1 : T lo = 1000 + v) (hv : v < 1000) (h2 : aO p = 32) (h3 : aR p = nI v) (hN : lo + 1 ≤ N) (hq : p + 1 ≤ pe) : ∀ (R : RR_) (h : Nat), wf_ R → 2 * h + ((lo + 1) - lo) ≤ 40 → ∃ (o : Option (Int32 × Nat)) (R1 : RR_), wf_ R1 ∧ (∀ (er : Int32) (ps : Nat), o = some (er, ps) → ¬ -1 ≤ er) ∧ (∃ K : Nat, ∀ (post : Int32 → SX → Prop) (n : Nat) (d : Nat → Nat), bd_ d → (o = none → ∀ d', bd_ d' → wX_execute_10 post (nI pe) n (nI (8 + (h + 1))) (nI (p + 1)) (nI sc) fC fA fP fW fE fN fT (dn_A (rg_l R1.1)) R1.2.1 (dn_A R1.2.2) aT aO aR aA aK aH aB (dn_A d')) → (∀ (er : Int32) (ps : Nat), o = some (er, ps) → ∀ d', bd_ d' → post er (nI sc, fC, fA, fP, fW, nI ps, fN, fT, dn_A (rg_l R1.1), R1.2.1, dn_A R1.2.2, aT, aO, aR, aA, aK, aH, aB, dn_A d')) → wX_execute_10 post (nI pe) (n + K) (nI (8 + h)) (nI p) (nI sc) fC fA fP fW fE fN fT (dn_A (rg_l R.1)) R.2.1 (dn_A R.2.2) aT aO aR aA aK aH aB (dn_A d)) ∧ (∃ K : Nat, K ≤ 3 * ((lo + 1) - lo) ∧ ∀ (post : Int32 → SY → Prop) (J : Nat) (bT bO bH : Nat → Int32) (e : Nat → Nat) (x n : Nat) (S : RR_), wf_ S → ag_ R S → J + 3 + 2 * ((lo + 1) - lo) < 160 → x + 3 * ((lo + 1) - lo) ≤ 1000 → je_ bT bO bH J 0 lo (lo + 1) → (o = none → ∀ e' S' bT' bO' bH', wf_ S' → ag_ R1 S' → ja_ bT bO bH bT' bO' bH' J → wY_run_63 post (nI to) n (nI (x + K)) (nI sc) gT gW (nI J) (nI (h + 1)) 0 (dn_A (rg_d S'.1)) S'.2.1 (dn_A S'.2.2) (dn_A e') bL bT' bO' bH') → (∀ (er : Int32) (ps : Nat), o = some (er, ps) → ∀ e' S' (x' j' v' : Int32) bT' bO' bH', wf_ S' → ag_ R1 S' → wY_run_63 post (nI to) n x' (nI sc) gT (nI ps) j' v' er (dn_A (rg_d S'.1)) S'.2.1 (dn_A S'.2.2) (dn_A e') bL bT' bO' bH') → wY_run_63 post (nI to) (n + K) (nI x) (nI sc) gT gW (nI (J + 1)) (nI h) 0 (dn_A (rg_d S.1)) S.2.1 (dn_A S.2.2) (dn_A e) bL bT bO bH) := by
  intro R h wR hh
  refine ⟨none, st_R R (8 + h) v 1 0, wf_v wR hv, fun er ps z => (by cases z), ⟨1, fun post n d hd kn ke => xs_sm (by omega) hpe h2 h3 hv (by omega) (kn rfl d hd)⟩, ⟨1, by omega, fun post J bT bO bH e x n S wS aS hJ hx hj kn ke => yj_num hT hG h1 hv hN (by omega) (by omega) hj (by omega) (fun e' => kn rfl e' _ bT bO bH (wf_v wS hv) (ag_st aS _ _ _ _) ja_r)⟩⟩
theorem ex_par (hT : tn_ T N bL) (hG : G_ T aO aR aA 8 lo (hi + 1) p q) (hI : G_ T aO aR aA 0 (lo + 1) hi p q) (h1 : T lo = 16) (hN : hi + 1 ≤ N) (e1 : ∀ (R : RR_) (h : Nat), wf_ R → 2 * h + (hi - (lo + 1)) ≤ 40 → ∃ (o : Option (Int32 × Nat)) (R1 : RR_), wf_ R1 ∧ (∀ (er : Int32) (ps : Nat), o = some (er, ps) → ¬ -1 ≤ er) ∧ (∃ K : Nat, ∀ (post : Int32 → SX → Prop) (n : Nat) (d : Nat → Nat), bd_ d → (o = none → ∀ d', bd_ d' → wX_execute_10 post (nI pe) n (nI (8 + (h + 1))) (nI q) (nI sc) fC fA fP fW fE fN fT (dn_A (rg_l R1.1)) R1.2.1 (dn_A R1.2.2) aT aO aR aA aK aH aB (dn_A d')) → (∀ (er : Int32) (ps : Nat), o = some (er, ps) → ∀ d', bd_ d' → post er (nI sc, fC, fA, fP, fW, nI ps, fN, fT, dn_A (rg_l R1.1), R1.2.1, dn_A R1.2.2, aT, aO, aR, aA, aK, aH, aB, dn_A d')) → wX_execute_10 post (nI pe) (n + K) (nI (8 + h)) (nI p) (nI sc) fC fA fP fW fE fN fT (dn_A (rg_l R.1)) R.2.1 (dn_A R.2.2) aT aO aR aA aK aH aB (dn_A d)) ∧ (∃ K : Nat, K ≤ 3 * (hi - (lo + 1)) ∧ ∀ (post : Int32 → SY → Prop) (J : Nat) (bT bO bH : Nat → Int32) (e : Nat → Nat) (x n : Nat) (S : RR_), wf_ S → ag_ R S → J + 3 + 2 * (hi - (lo + 1)) < 160 → x + 3 * (hi - (lo + 1)) ≤ 1000 → je_ bT bO bH J 0 (lo + 1) hi → (o = none → ∀ e' S' bT' bO' bH', wf_ S' → ag_ R1 S' → ja_ bT bO bH bT' bO' bH' J → wY_run_63 post (nI to) n (nI (x + K)) (nI sc) gT gW (nI J) (nI (h + 1)) 0 (dn_A (rg_d S'.1)) S'.2.1 (dn_A S'.2.2) (dn_A e') bL bT' bO' bH') → (∀ (er : Int32) (ps : Nat), o = some (er, ps) → ∀ e' S' (x' j' v' : Int32) bT' bO' bH', wf_ S' → ag_ R1 S' → wY_run_63 post (nI to) n x' (nI sc) gT (nI ps) j' v' er (dn_A (rg_d S'.1)) S'.2.1 (dn_A S'.2.2) (dn_A e') bL bT' bO' bH') → wY_run_63 post (nI to) (n + K) (nI x) (nI sc) gT gW (nI (J + 1)) (nI h) 0 (dn_A (rg_d S.1)) S.2.1 (dn_A S.2.2) (dn_A e) bL bT bO bH)) : ∀ (R : RR_) (h : Nat), wf_ R → 2 * h + ((hi + 1) - lo) ≤ 40 → ∃ (o : Option (Int32 × Nat)) (R1 : RR_), wf_ R1 ∧ (∀ (er : Int32) (ps : Nat), o = some (er, ps) → ¬ -1 ≤ er) ∧ (∃ K : Nat, ∀ (post : Int32 → SX → Prop) (n : Nat) (d : Nat → Nat), bd_ d → (o = none → ∀ d', bd_ d' → wX_execute_10 post (nI pe) n (nI (8 + (h + 1))) (nI q) (nI sc) fC fA fP fW fE fN fT (dn_A (rg_l R1.1)) R1.2.1 (dn_A R1.2.2) aT aO aR aA aK aH aB (dn_A d')) → (∀ (er : Int32) (ps : Nat), o = some (er, ps) → ∀ d', bd_ d' → post er (nI sc, fC, fA, fP, fW, nI ps, fN, fT, dn_A (rg_l R1.1), R1.2.1, dn_A R1.2.2, aT, aO, aR, aA, aK, aH, aB, dn_A d')) → wX_execute_10 post (nI pe) (n + K) (nI (8 + h)) (nI p) (nI sc) fC fA fP fW fE fN fT (dn_A (rg_l R.1)) R.2.1 (dn_A R.2.2) aT aO aR aA aK aH aB (dn_A d)) ∧ (∃ K : Nat, K ≤ 3 * ((hi + 1) - lo) ∧ ∀ (post : Int32 → SY → Prop) (J : Nat) (bT bO bH : Nat → Int32) (e : Nat → Nat) (x n : Nat) (S : RR_), wf_ S → ag_ R S → J + 3 + 2 * ((hi + 1) - lo) < 160 → x + 3 * ((hi + 1) - lo) ≤ 1000 → je_ bT bO bH J 0 lo (hi + 1) → (o = none → ∀ e' S' bT' bO' bH', wf_ S' → ag_ R1 S' → ja_ bT bO bH bT' bO' bH' J → wY_run_63 post (nI to) n (nI (x + K)) (nI sc) gT gW (nI J) (nI (h + 1)) 0 (dn_A (rg_d S'.1)) S'.2.1 (dn_A S'.2.2) (dn_A e') bL bT' bO' bH') → (∀ (er : Int32) (ps : Nat), o = some (er, ps) → ∀ e' S' (x' j' v' : Int32) bT' bO' bH', wf_ S' → ag_ R1 S' → wY_run_63 post (nI to) n x' (nI sc) gT (nI ps) j' v' er (dn_A (rg_d S'.1)) S'.2.1 (dn_A S'.2.2) (dn_A e') bL bT' bO' bH') → wY_run_63 post (nI to) (n + K) (nI x) (nI sc) gT gW (nI (J + 1)) (nI h) 0 (dn_A (rg_d S.1)) S.2.1 (dn_A S.2.2) (dn_A e) bL bT bO bH) := by
  intro R h wR hh
  have g := G_lt hI
  obtain ⟨o, R1, w1, g1, ⟨K1, x1⟩, ⟨L1, l1, y1⟩⟩ := e1 R h wR (by omega)
  refine ⟨o, R1, w1, g1, ⟨K1, x1⟩, ⟨L1 + 1, by omega, fun post J bT bO bH e x n S wS aS hJ hx hj kn ke => yj_par hT hG h1 hN (by omega) (by omega) hj (fun bT' bO' bH' j0 j1 => ?_)⟩⟩
  refine y1 post J bT' bO' bH' e (x + 1) n S wS aS (by omega) (by omega) j1 (fun z e' S' bT2 bO2 bH2 wS' aS' j2 => ?_) ke
  have := kn z e' S' bT2 bO2 bH2 wS' aS' (ja_t j0 j2 (Nat.le_refl _))
  rw [show x + (L1 + 1) = x + 1 + L1 by omega] at this
  exact this
theorem ex_sqr (hT : tn_ T N bL) (hsc : sc ≤ 16) (hpe : pe ≤ 99) (hG : G_ T aO aR aA 8 lo (hi + 1) p (q + 1)) (hI : G_ T aO aR aA 0 (lo + 2) hi p q) (h1 : T lo = 18) (h2 : aO q = 18) (h3 : aA q = nI lo) (hN : hi + 1 ≤ N) (hq : q + 1 ≤ pe) (e1 : ∀ (R : RR_) (h : Nat), wf_ R → 2 * h + (hi - (lo + 2)) ≤ 40 → ∃ (o : Option (Int32 × Nat)) (R1 : RR_), wf_ R1 ∧ (∀ (er : Int32) (ps : Nat), o = some (er, ps) → ¬ -1 ≤ er) ∧ (∃ K : Nat, ∀ (post : Int32 → SX → Prop) (n : Nat) (d : Nat → Nat), bd_ d → (o = none → ∀ d', bd_ d' → wX_execute_10 post (nI pe) n (nI (8 + (h + 1))) (nI q) (nI sc) fC fA fP fW fE fN fT (dn_A (rg_l R1.1)) R1.2.1 (dn_A R1.2.2) aT aO aR aA aK aH aB (dn_A d')) → (∀ (er : Int32) (ps : Nat), o = some (er, ps) → ∀ d', bd_ d' → post er (nI sc, fC, fA, fP, fW, nI ps, fN, fT, dn_A (rg_l R1.1), R1.2.1, dn_A R1.2.2, aT, aO, aR, aA, aK, aH, aB, dn_A d')) → wX_execute_10 post (nI pe) (n + K) (nI (8 + h)) (nI p) (nI sc) fC fA fP fW fE fN fT (dn_A (rg_l R.1)) R.2.1 (dn_A R.2.2) aT aO aR aA aK aH aB (dn_A d)) ∧ (∃ K : Nat, K ≤ 3 * (hi - (lo + 2)) ∧ ∀ (post : Int32 → SY → Prop) (J : Nat) (bT bO bH : Nat → Int32) (e : Nat → Nat) (x n : Nat) (S : RR_), wf_ S → ag_ R S → J + 3 + 2 * (hi - (lo + 2)) < 160 → x + 3 * (hi - (lo + 2)) ≤ 1000 → je_ bT bO bH J 0 (lo + 2) hi → (o = none → ∀ e' S' bT' bO' bH', wf_ S' → ag_ R1 S' → ja_ bT bO bH bT' bO' bH' J → wY_run_63 post (nI to) n (nI (x + K)) (nI sc) gT gW (nI J) (nI (h + 1)) 0 (dn_A (rg_d S'.1)) S'.2.1 (dn_A S'.2.2) (dn_A e') bL bT' bO' bH') → (∀ (er : Int32) (ps : Nat), o = some (er, ps) → ∀ e' S' (x' j' v' : Int32) bT' bO' bH', wf_ S' → ag_ R1 S' → wY_run_63 post (nI to) n x' (nI sc) gT (nI ps) j' v' er (dn_A (rg_d S'.1)) S'.2.1 (dn_A S'.2.2) (dn_A e') bL bT' bO' bH') → wY_run_63 post (nI to) (n + K) (nI x) (nI sc) gT gW (nI (J + 1)) (nI h) 0 (dn_A (rg_d S.1)) S.2.1 (dn_A S.2.2) (dn_A e) bL bT bO bH)) : ∀ (R : RR_) (h : Nat), wf_ R → 2 * h + ((hi + 1) - lo) ≤ 40 → ∃ (o : Option (Int32 × Nat)) (R1 : RR_), wf_ R1 ∧ (∀ (er : Int32) (ps : Nat), o = some (er, ps) → ¬ -1 ≤ er) ∧ (∃ K : Nat, ∀ (post : Int32 → SX → Prop) (n : Nat) (d : Nat → Nat), bd_ d → (o = none → ∀ d', bd_ d' → wX_execute_10 post (nI pe) n (nI (8 + (h + 1))) (nI (q + 1)) (nI sc) fC fA fP fW fE fN fT (dn_A (rg_l R1.1)) R1.2.1 (dn_A R1.2.2) aT aO aR aA aK aH aB (dn_A d')) → (∀ (er : Int32) (ps : Nat), o = some (er, ps) → ∀ d', bd_ d' → post er (nI sc, fC, fA, fP, fW, nI ps, fN, fT, dn_A (rg_l R1.1), R1.2.1, dn_A R1.2.2, aT, aO, aR, aA, aK, aH, aB, dn_A d')) → wX_execute_10 post (nI pe) (n + K) (nI (8 + h)) (nI p) (nI sc) fC fA fP fW fE fN fT (dn_A (rg_l R.1)) R.2.1 (dn_A R.2.2) aT aO aR aA aK aH aB (dn_A d)) ∧ (∃ K : Nat, K ≤ 3 * ((hi + 1) - lo) ∧ ∀ (post : Int32 → SY → Prop) (J : Nat) (bT bO bH : Nat → Int32) (e : Nat → Nat) (x n : Nat) (S : RR_), wf_ S → ag_ R S → J + 3 + 2 * ((hi + 1) - lo) < 160 → x + 3 * ((hi + 1) - lo) ≤ 1000 → je_ bT bO bH J 0 lo (hi + 1) → (o = none → ∀ e' S' bT' bO' bH', wf_ S' → ag_ R1 S' → ja_ bT bO bH bT' bO' bH' J → wY_run_63 post (nI to) n (nI (x + K)) (nI sc) gT gW (nI J) (nI (h + 1)) 0 (dn_A (rg_d S'.1)) S'.2.1 (dn_A S'.2.2) (dn_A e') bL bT' bO' bH') → (∀ (er : Int32) (ps : Nat), o = some (er, ps) → ∀ e' S' (x' j' v' : Int32) bT' bO' bH', wf_ S' → ag_ R1 S' → wY_run_63 post (nI to) n x' (nI sc) gT (nI ps) j' v' er (dn_A (rg_d S'.1)) S'.2.1 (dn_A S'.2.2) (dn_A e') bL bT' bO' bH') → wY_run_63 post (nI to) (n + K) (nI x) (nI sc) gT gW (nI (J + 1)) (nI h) 0 (dn_A (rg_d S.1)) S.2.1 (dn_A S.2.2) (dn_A e) bL bT bO bH) := by
  intro R h wR hh
  have g := G_lt hI
  obtain ⟨o, R1, w1, g1, ⟨K1, x1⟩, ⟨L1, l1, y1⟩⟩ := e1 R h wR (by omega)
  cases o with
  | some er =>
    refine ⟨some er, R1, w1, g1, ⟨K1, fun post n d hd kn ke => x1 post n d hd (fun z => by cases z) ke⟩, ⟨L1 + 1, by omega, fun post J bT bO bH e x n S wS aS hJ hx hj kn ke => yj_sqr hT hG h1 hN (by omega) (by omega) hj (fun bT' bO' bH' j0 j1 j2 => ?_)⟩⟩
    exact y1 post (J + 1) bT' bO' bH' e (x + 1) n S wS aS (by omega) (by omega) j2 (fun z => by cases z) ke
  | none =>
    by_cases z : -1 ≤ (o_root R1 sc (8 + h) (8 + h)).1
    · refine ⟨none, (o_root R1 sc (8 + h) (8 + h)).2, wf_root w1, fun er ps z => (by cases z), ⟨K1 + 1, fun post n d hd kn ke => ?_⟩, ⟨L1 + 2, by omega, fun post J bT bO bH e x n S wS aS hJ hx hj kn ke => yj_sqr hT hG h1 hN (by omega) (by omega) hj (fun bT' bO' bH' j0 j1 j2 => ?_)⟩⟩
      · rw [show n + (K1 + 1) = n + 1 + K1 by omega]
        exact x1 post (n + 1) d hd (fun _ d' hd' => xs_rt w1 hd' hsc (by omega) hpe h2 h3 (by omega) (fun _ d2 hd2 => kn rfl d2 hd2) (fun y => absurd z y)) (fun er ps y => by cases y)
      · rw [show n.add (L1 + 1) = n + 1 + L1 from (show n + (L1 + 1) = n + 1 + L1 by omega)]
        refine y1 post (J + 1) bT' bO' bH' e (x + 1) (n + 1) S wS aS (by omega) (by omega) j2 (fun _ e' S' bT2 bO2 bH2 wS' aS' j3 => ?_) (fun er ps y => by cases y)
        have hpo := po_root (sc := sc) (a := 8 + h) (t := 8 + h) aS' (by omega)
        refine yj_rt wS' hT hsc h1 (by omega) (by omega) (by omega) (ja_e j3 (by omega) j1) (by omega) (fun _ e2 => ?_) (fun y => absurd (hpo.1 ▸ z) y)
        have := kn rfl e2 _ bT2 bO2 bH2 (wf_root wS') hpo.2 (ja_t j0 j3 (by omega))
        rw [show x + (L1 + 2) = x + 1 + L1 + 1 by omega] at this
        exact this
    · refine ⟨some ((o_root R1 sc (8 + h) (8 + h)).1, lo), (o_root R1 sc (8 + h) (8 + h)).2, wf_root w1, fun er ps y => (by cases y; exact z), ⟨K1 + 1, fun post n d hd kn ke => ?_⟩, ⟨L1 + 2, by omega, fun post J bT bO bH e x n S wS aS hJ hx hj kn ke => yj_sqr hT hG h1 hN (by omega) (by omega) hj (fun bT' bO' bH' j0 j1 j2 => ?_)⟩⟩
      · rw [show n + (K1 + 1) = n + 1 + K1 by omega]
        exact x1 post (n + 1) d hd (fun _ d' hd' => xs_rt w1 hd' hsc (by omega) hpe h2 h3 (by omega) (fun y => absurd y z) (fun _ d2 hd2 => ke _ _ rfl d2 hd2)) (fun er ps y => by cases y)
      · rw [show n.add (L1 + 1) = n + 1 + L1 from (show n + (L1 + 1) = n + 1 + L1 by omega)]
        refine y1 post (J + 1) bT' bO' bH' e (x + 1) (n + 1) S wS aS (by omega) (by omega) j2 (fun _ e' S' bT2 bO2 bH2 wS' aS' j3 => ?_) (fun er ps y => by cases y)
        have hpo := po_root (sc := sc) (a := 8 + h) (t := 8 + h) aS' (by omega)
        refine yj_rt wS' hT hsc h1 (by omega) (by omega) (by omega) (ja_e j3 (by omega) j1) (by omega) (fun y => absurd (hpo.1 ▸ y) z) (fun _ e2 => ?_)
        have := ke _ _ rfl e2 _ (nI (x + 1 + L1 + 1)) (nI J) (nI (h + 1)) bT2 bO2 bH2 (wf_root wS') hpo.2
        rw [hpo.1] at this
        exact this
theorem ex_neg (hT : tn_ T N bL) (hpe : pe ≤ 99) (hG : G_ T aO aR aA 6 lo hi p (q + 1)) (hI : G_ T aO aR aA 6 (lo + 1) hi p q) (h1 : T lo = 11) (h2 : aO q = 30) (hN : hi ≤ N) (hq : q + 1 ≤ pe) (e1 : ∀ (R : RR_) (h : Nat), wf_ R → 2 * h + (hi - (lo + 1)) ≤ 40 → ∃ (o : Option (Int32 × Nat)) (R1 : RR_), wf_ R1 ∧ (∀ (er : Int32) (ps : Nat), o = some (er, ps) → ¬ -1 ≤ er) ∧ (∃ K : Nat, ∀ (post : Int32 → SX → Prop) (n : Nat) (d : Nat → Nat), bd_ d → (o = none → ∀ d', bd_ d' → wX_execute_10 post (nI pe) n (nI (8 + (h + 1))) (nI q) (nI sc) fC fA fP fW fE fN fT (dn_A (rg_l R1.1)) R1.2.1 (dn_A R1.2.2) aT aO aR aA aK aH aB (dn_A d')) → (∀ (er : Int32) (ps : Nat), o = some (er, ps) → ∀ d', bd_ d' → post er (nI sc, fC, fA, fP, fW, nI ps, fN, fT, dn_A (rg_l R1.1), R1.2.1, dn_A R1.2.2, aT, aO, aR, aA, aK, aH, aB, dn_A d')) → wX_execute_10 post (nI pe) (n + K) (nI (8 + h)) (nI p) (nI sc) fC fA fP fW fE fN fT (dn_A (rg_l R.1)) R.2.1 (dn_A R.2.2) aT aO aR aA aK aH aB (dn_A d)) ∧ (∃ K : Nat, K ≤ 3 * (hi - (lo + 1)) ∧ ∀ (post : Int32 → SY → Prop) (J : Nat) (bT bO bH : Nat → Int32) (e : Nat → Nat) (x n : Nat) (S : RR_), wf_ S → ag_ R S → J + 3 + 2 * (hi - (lo + 1)) < 160 → x + 3 * (hi - (lo + 1)) ≤ 1000 → je_ bT bO bH J 0 (lo + 1) hi → (o = none → ∀ e' S' bT' bO' bH', wf_ S' → ag_ R1 S' → ja_ bT bO bH bT' bO' bH' J → wY_run_63 post (nI to) n (nI (x + K)) (nI sc) gT gW (nI J) (nI (h + 1)) 0 (dn_A (rg_d S'.1)) S'.2.1 (dn_A S'.2.2) (dn_A e') bL bT' bO' bH') → (∀ (er : Int32) (ps : Nat), o = some (er, ps) → ∀ e' S' (x' j' v' : Int32) bT' bO' bH', wf_ S' → ag_ R1 S' → wY_run_63 post (nI to) n x' (nI sc) gT (nI ps) j' v' er (dn_A (rg_d S'.1)) S'.2.1 (dn_A S'.2.2) (dn_A e') bL bT' bO' bH') → wY_run_63 post (nI to) (n + K) (nI x) (nI sc) gT gW (nI (J + 1)) (nI h) 0 (dn_A (rg_d S.1)) S.2.1 (dn_A S.2.2) (dn_A e) bL bT bO bH)) : ∀ (R : RR_) (h : Nat), wf_ R → 2 * h + (hi - lo) ≤ 40 → ∃ (o : Option (Int32 × Nat)) (R1 : RR_), wf_ R1 ∧ (∀ (er : Int32) (ps : Nat), o = some (er, ps) → ¬ -1 ≤ er) ∧ (∃ K : Nat, ∀ (post : Int32 → SX → Prop) (n : Nat) (d : Nat → Nat), bd_ d → (o = none → ∀ d', bd_ d' → wX_execute_10 post (nI pe) n (nI (8 + (h + 1))) (nI (q + 1)) (nI sc) fC fA fP fW fE fN fT (dn_A (rg_l R1.1)) R1.2.1 (dn_A R1.2.2) aT aO aR aA aK aH aB (dn_A d')) → (∀ (er : Int32) (ps : Nat), o = some (er, ps) → ∀ d', bd_ d' → post er (nI sc, fC, fA, fP, fW, nI ps, fN, fT, dn_A (rg_l R1.1), R1.2.1, dn_A R1.2.2, aT, aO, aR, aA, aK, aH, aB, dn_A d')) → wX_execute_10 post (nI pe) (n + K) (nI (8 + h)) (nI p) (nI sc) fC fA fP fW fE fN fT (dn_A (rg_l R.1)) R.2.1 (dn_A R.2.2) aT aO aR aA aK aH aB (dn_A d)) ∧ (∃ K : Nat, K ≤ 3 * (hi - lo) ∧ ∀ (post : Int32 → SY → Prop) (J : Nat) (bT bO bH : Nat → Int32) (e : Nat → Nat) (x n : Nat) (S : RR_), wf_ S → ag_ R S → J + 3 + 2 * (hi - lo) < 160 → x + 3 * (hi - lo) ≤ 1000 → je_ bT bO bH J 0 lo hi → (o = none → ∀ e' S' bT' bO' bH', wf_ S' → ag_ R1 S' → ja_ bT bO bH bT' bO' bH' J → wY_run_63 post (nI to) n (nI (x + K)) (nI sc) gT gW (nI J) (nI (h + 1)) 0 (dn_A (rg_d S'.1)) S'.2.1 (dn_A S'.2.2) (dn_A e') bL bT' bO' bH') → (∀ (er : Int32) (ps : Nat), o = some (er, ps) → ∀ e' S' (x' j' v' : Int32) bT' bO' bH', wf_ S' → ag_ R1 S' → wY_run_63 post (nI to) n x' (nI sc) gT (nI ps) j' v' er (dn_A (rg_d S'.1)) S'.2.1 (dn_A S'.2.2) (dn_A e') bL bT' bO' bH') → wY_run_63 post (nI to) (n + K) (nI x) (nI sc) gT gW (nI (J + 1)) (nI h) 0 (dn_A (rg_d S.1)) S.2.1 (dn_A S.2.2) (dn_A e) bL bT bO bH) := by
  intro R h wR hh
  have g := G_lt hI
  obtain ⟨o, R1, w1, g1, ⟨K1, x1⟩, ⟨L1, l1, y1⟩⟩ := e1 R h wR (by omega)
  cases o with
  | some er =>
    refine ⟨some er, R1, w1, g1, ⟨K1, fun post n d hd kn ke => x1 post n d hd (fun z => by cases z) ke⟩, ⟨L1 + 1, by omega, fun post J bT bO bH e x n S wS aS hJ hx hj kn ke => yj_neg hT hG h1 hN (by omega) (by omega) hj (fun bT' bO' bH' j0 j1 j2 => ?_)⟩⟩
    exact y1 post (J + 1) bT' bO' bH' e (x + 1) n S wS aS (by omega) (by omega) j2 (fun z => by cases z) ke
  | none =>
    refine ⟨none, (R1.1, upd R1.2.1 (8 + h) (-R1.2.1 (8 + h)), R1.2.2), wf_ng w1, fun er ps z => (by cases z), ⟨K1 + 1, fun post n d hd kn ke => ?_⟩, ⟨L1 + 2, by omega, fun post J bT bO bH e x n S wS aS hJ hx hj kn ke => yj_neg hT hG h1 hN (by omega) (by omega) hj (fun bT' bO' bH' j0 j1 j2 => ?_)⟩⟩
    · rw [show n + (K1 + 1) = n + 1 + K1 by omega]
      exact x1 post (n + 1) d hd (fun _ d' hd' => xs_ng w1 (by omega) hpe h2 (by omega) (kn rfl d' hd')) (fun er ps y => by cases y)
    · rw [show n.add (L1 + 1) = n + 1 + L1 from (show n + (L1 + 1) = n + 1 + L1 by omega)]
      refine y1 post (J + 1) bT' bO' bH' e (x + 1) (n + 1) S wS aS (by omega) (by omega) j2 (fun _ e' S' bT2 bO2 bH2 wS' aS' j3 => ?_) (fun er ps y => by cases y)
      refine yj_ng (by omega) (by omega) (ja_e j3 (by omega) j1) (by omega) ?_
      have := kn rfl e' _ bT2 bO2 bH2 (wf_ng wS') (ag_ng aS' (by omega)) (ja_t j0 j3 (by omega))
      rw [show x + (L1 + 2) = x + 1 + L1 + 1 by omega] at this
      exact this
theorem ex_asg (hT : tn_ T N bL) (hpe : pe ≤ 99) (hG : G_ T aO aR aA 0 lo hi p (q + 1)) (hI : G_ T aO aR aA 0 (lo + 2) hi p q) (h1 : T lo < 8) (h19 : T (lo + 1) = 19) (h2 : aO q = 33) (h3 : aR q = nI (T lo)) (hN : hi ≤ N) (hq : q + 1 ≤ pe) (e1 : ∀ (R : RR_) (h : Nat), wf_ R → 2 * h + (hi - (lo + 2)) ≤ 40 → ∃ (o : Option (Int32 × Nat)) (R1 : RR_), wf_ R1 ∧ (∀ (er : Int32) (ps : Nat), o = some (er, ps) → ¬ -1 ≤ er) ∧ (∃ K : Nat, ∀ (post : Int32 → SX → Prop) (n : Nat) (d : Nat → Nat), bd_ d → (o = none → ∀ d', bd_ d' → wX_execute_10 post (nI pe) n (nI (8 + (h + 1))) (nI q) (nI sc) fC fA fP fW fE fN fT (dn_A (rg_l R1.1)) R1.2.1 (dn_A R1.2.2) aT aO aR aA aK aH aB (dn_A d')) → (∀ (er : Int32) (ps : Nat), o = some (er, ps) → ∀ d', bd_ d' → post er (nI sc, fC, fA, fP, fW, nI ps, fN, fT, dn_A (rg_l R1.1), R1.2.1, dn_A R1.2.2, aT, aO, aR, aA, aK, aH, aB, dn_A d')) → wX_execute_10 post (nI pe) (n + K) (nI (8 + h)) (nI p) (nI sc) fC fA fP fW fE fN fT (dn_A (rg_l R.1)) R.2.1 (dn_A R.2.2) aT aO aR aA aK aH aB (dn_A d)) ∧ (∃ K : Nat, K ≤ 3 * (hi - (lo + 2)) ∧ ∀ (post : Int32 → SY → Prop) (J : Nat) (bT bO bH : Nat → Int32) (e : Nat → Nat) (x n : Nat) (S : RR_), wf_ S → ag_ R S → J + 3 + 2 * (hi - (lo + 2)) < 160 → x + 3 * (hi - (lo + 2)) ≤ 1000 → je_ bT bO bH J 0 (lo + 2) hi → (o = none → ∀ e' S' bT' bO' bH', wf_ S' → ag_ R1 S' → ja_ bT bO bH bT' bO' bH' J → wY_run_63 post (nI to) n (nI (x + K)) (nI sc) gT gW (nI J) (nI (h + 1)) 0 (dn_A (rg_d S'.1)) S'.2.1 (dn_A S'.2.2) (dn_A e') bL bT' bO' bH') → (∀ (er : Int32) (ps : Nat), o = some (er, ps) → ∀ e' S' (x' j' v' : Int32) bT' bO' bH', wf_ S' → ag_ R1 S' → wY_run_63 post (nI to) n x' (nI sc) gT (nI ps) j' v' er (dn_A (rg_d S'.1)) S'.2.1 (dn_A S'.2.2) (dn_A e') bL bT' bO' bH') → wY_run_63 post (nI to) (n + K) (nI x) (nI sc) gT gW (nI (J + 1)) (nI h) 0 (dn_A (rg_d S.1)) S.2.1 (dn_A S.2.2) (dn_A e) bL bT bO bH)) : ∀ (R : RR_) (h : Nat), wf_ R → 2 * h + (hi - lo) ≤ 40 → ∃ (o : Option (Int32 × Nat)) (R1 : RR_), wf_ R1 ∧ (∀ (er : Int32) (ps : Nat), o = some (er, ps) → ¬ -1 ≤ er) ∧ (∃ K : Nat, ∀ (post : Int32 → SX → Prop) (n : Nat) (d : Nat → Nat), bd_ d → (o = none → ∀ d', bd_ d' → wX_execute_10 post (nI pe) n (nI (8 + (h + 1))) (nI (q + 1)) (nI sc) fC fA fP fW fE fN fT (dn_A (rg_l R1.1)) R1.2.1 (dn_A R1.2.2) aT aO aR aA aK aH aB (dn_A d')) → (∀ (er : Int32) (ps : Nat), o = some (er, ps) → ∀ d', bd_ d' → post er (nI sc, fC, fA, fP, fW, nI ps, fN, fT, dn_A (rg_l R1.1), R1.2.1, dn_A R1.2.2, aT, aO, aR, aA, aK, aH, aB, dn_A d')) → wX_execute_10 post (nI pe) (n + K) (nI (8 + h)) (nI p) (nI sc) fC fA fP fW fE fN fT (dn_A (rg_l R.1)) R.2.1 (dn_A R.2.2) aT aO aR aA aK aH aB (dn_A d)) ∧ (∃ K : Nat, K ≤ 3 * (hi - lo) ∧ ∀ (post : Int32 → SY → Prop) (J : Nat) (bT bO bH : Nat → Int32) (e : Nat → Nat) (x n : Nat) (S : RR_), wf_ S → ag_ R S → J + 3 + 2 * (hi - lo) < 160 → x + 3 * (hi - lo) ≤ 1000 → je_ bT bO bH J 0 lo hi → (o = none → ∀ e' S' bT' bO' bH', wf_ S' → ag_ R1 S' → ja_ bT bO bH bT' bO' bH' J → wY_run_63 post (nI to) n (nI (x + K)) (nI sc) gT gW (nI J) (nI (h + 1)) 0 (dn_A (rg_d S'.1)) S'.2.1 (dn_A S'.2.2) (dn_A e') bL bT' bO' bH') → (∀ (er : Int32) (ps : Nat), o = some (er, ps) → ∀ e' S' (x' j' v' : Int32) bT' bO' bH', wf_ S' → ag_ R1 S' → wY_run_63 post (nI to) n x' (nI sc) gT (nI ps) j' v' er (dn_A (rg_d S'.1)) S'.2.1 (dn_A S'.2.2) (dn_A e') bL bT' bO' bH') → wY_run_63 post (nI to) (n + K) (nI x) (nI sc) gT gW (nI (J + 1)) (nI h) 0 (dn_A (rg_d S.1)) S.2.1 (dn_A S.2.2) (dn_A e) bL bT bO bH) := by
  intro R h wR hh
  have g := G_lt hI
  obtain ⟨o, R1, w1, g1, ⟨K1, x1⟩, ⟨L1, l1, y1⟩⟩ := e1 R h wR (by omega)
  cases o with
  | some er =>
    refine ⟨some er, R1, w1, g1, ⟨K1, fun post n d hd kn ke => x1 post n d hd (fun z => by cases z) ke⟩, ⟨L1 + 1, by omega, fun post J bT bO bH e x n S wS aS hJ hx hj kn ke => yj_asg hT hG hI h1 h19 hN (by omega) (by omega) hj (fun bT' bO' bH' j0 j1 j2 => ?_)⟩⟩
    exact y1 post (J + 1) bT' bO' bH' e (x + 1) n S wS aS (by omega) (by omega) j2 (fun z => by cases z) ke
  | none =>
    refine ⟨none, dp_ R1 (8 + h) (T lo), wf_dp w1, fun er ps z => (by cases z), ⟨K1 + 1, fun post n d hd kn ke => ?_⟩, ⟨L1 + 2, by omega, fun post J bT bO bH e x n S wS aS hJ hx hj kn ke => yj_asg hT hG hI h1 h19 hN (by omega) (by omega) hj (fun bT' bO' bH' j0 j1 j2 => ?_)⟩⟩
    · rw [show n + (K1 + 1) = n + 1 + K1 by omega]
      exact x1 post (n + 1) d hd (fun _ d' hd' => xs_st w1 (by omega) hpe h2 h3 (by omega) (by omega) (kn rfl d' hd')) (fun er ps y => by cases y)
    · rw [show n.add (L1 + 1) = n + 1 + L1 from (show n + (L1 + 1) = n + 1 + L1 by omega)]
      refine y1 post (J + 1) bT' bO' bH' e (x + 1) (n + 1) S wS aS (by omega) (by omega) j2 (fun _ e' S' bT2 bO2 bH2 wS' aS' j3 => ?_) (fun er ps y => by cases y)
      refine yj_put wS' (by omega) (by omega) (ja_e j3 (by omega) j1) (by omega) (by omega) (fun e2 => ?_)
      have := kn rfl e2 _ bT2 bO2 bH2 (wf_dp wS') (ag_dp aS' _ (by omega)) (ja_t j0 j3 (by omega))
      rw [show x + (L1 + 2) = x + 1 + L1 + 1 by omega] at this
      exact this
end
end
section
section
variable {fS fC fA fP fW fE fN fT : Int32} {aL aG aC aT aO aR aA aK aH aB aW : Nat → Int32}
variable {gP gT gW gJ gV gE : Int32} {bD bG bP bW bL bT bO bH : Nat → Int32}
variable {T : Nat → Nat} {N to sc pe lo hi m c p q p1 p2 p3 v : Nat}
theorem ex_bin (hT : tn_ T N bL) (hsc : sc ≤ 16) (hpe : pe ≤ 99) (hl : G_ T aO aR aA (ll_ (T m)) lo m p p1) (hr : G_ T aO aR aA (rl_ (T m)) (m + 1) hi p1 p2) (hm : bo_ (T m)) (h2 : aO p2 = nI (T m)) (h3 : aA p2 = nI m) (hN : hi ≤ N) (hq : p2 + 1 ≤ pe)
    (e1 : ∀ (R : RR_) (h : Nat), wf_ R → 2 * h + (m - lo) ≤ 40 → ∃ (o : Option (Int32 × Nat)) (R1 : RR_), wf_ R1 ∧ (∀ (er : Int32) (ps : Nat), o = some (er, ps) → ¬ -1 ≤ er) ∧ (∃ K : Nat, ∀ (post : Int32 → SX → Prop) (n : Nat) (d : Nat → Nat), bd_ d → (o = none → ∀ d', bd_ d' → wX_execute_10 post (nI pe) n (nI (8 + (h + 1))) (nI p1) (nI sc) fC fA fP fW fE fN fT (dn_A (rg_l R1.1)) R1.2.1 (dn_A R1.2.2) aT aO aR aA aK aH aB (dn_A d')) → (∀ (er : Int32) (ps : Nat), o = some (er, ps) → ∀ d', bd_ d' → post er (nI sc, fC, fA, fP, fW, nI ps, fN, fT, dn_A (rg_l R1.1), R1.2.1, dn_A R1.2.2, aT, aO, aR, aA, aK, aH, aB, dn_A d')) → wX_execute_10 post (nI pe) (n + K) (nI (8 + h)) (nI p) (nI sc) fC fA fP fW fE fN fT (dn_A (rg_l R.1)) R.2.1 (dn_A R.2.2) aT aO aR aA aK aH aB (dn_A d)) ∧ (∃ K : Nat, K ≤ 3 * (m - lo) ∧ ∀ (post : Int32 → SY → Prop) (J : Nat) (bT bO bH : Nat → Int32) (e : Nat → Nat) (x n : Nat) (S : RR_), wf_ S → ag_ R S → J + 3 + 2 * (m - lo) < 160 → x + 3 * (m - lo) ≤ 1000 → je_ bT bO bH J 0 lo m → (o = none → ∀ e' S' bT' bO' bH', wf_ S' → ag_ R1 S' → ja_ bT bO bH bT' bO' bH' J → wY_run_63 post (nI to) n (nI (x + K)) (nI sc) gT gW (nI J) (nI (h + 1)) 0 (dn_A (rg_d S'.1)) S'.2.1 (dn_A S'.2.2) (dn_A e') bL bT' bO' bH') → (∀ (er : Int32) (ps : Nat), o = some (er, ps) → ∀ e' S' (x' j' v' : Int32) bT' bO' bH', wf_ S' → ag_ R1 S' → wY_run_63 post (nI to) n x' (nI sc) gT (nI ps) j' v' er (dn_A (rg_d S'.1)) S'.2.1 (dn_A S'.2.2) (dn_A e') bL bT' bO' bH') → wY_run_63 post (nI to) (n + K) (nI x) (nI sc) gT gW (nI (J + 1)) (nI h) 0 (dn_A (rg_d S.1)) S.2.1 (dn_A S.2.2) (dn_A e) bL bT bO bH)) (e2 : ∀ (R : RR_) (h : Nat), wf_ R → 2 * h + (hi - (m + 1)) ≤ 40 → ∃ (o : Option (Int32 × Nat)) (R1 : RR_), wf_ R1 ∧ (∀ (er : Int32) (ps : Nat), o = some (er, ps) → ¬ -1 ≤ er) ∧ (∃ K : Nat, ∀ (post : Int32 → SX → Prop) (n : Nat) (d : Nat → Nat), bd_ d → (o = none → ∀ d', bd_ d' → wX_execute_10 post (nI pe) n (nI (8 + (h + 1))) (nI p2) (nI sc) fC fA fP fW fE fN fT (dn_A (rg_l R1.1)) R1.2.1 (dn_A R1.2.2) aT aO aR aA aK aH aB (dn_A d')) → (∀ (er : Int32) (ps : Nat), o = some (er, ps) → ∀ d', bd_ d' → post er (nI sc, fC, fA, fP, fW, nI ps, fN, fT, dn_A (rg_l R1.1), R1.2.1, dn_A R1.2.2, aT, aO, aR, aA, aK, aH, aB, dn_A d')) → wX_execute_10 post (nI pe) (n + K) (nI (8 + h)) (nI p1) (nI sc) fC fA fP fW fE fN fT (dn_A (rg_l R.1)) R.2.1 (dn_A R.2.2) aT aO aR aA aK aH aB (dn_A d)) ∧ (∃ K : Nat, K ≤ 3 * (hi - (m + 1)) ∧ ∀ (post : Int32 → SY → Prop) (J : Nat) (bT bO bH : Nat → Int32) (e : Nat → Nat) (x n : Nat) (S : RR_), wf_ S → ag_ R S → J + 3 + 2 * (hi - (m + 1)) < 160 → x + 3 * (hi - (m + 1)) ≤ 1000 → je_ bT bO bH J 0 (m + 1) hi → (o = none → ∀ e' S' bT' bO' bH', wf_ S' → ag_ R1 S' → ja_ bT bO bH bT' bO' bH' J → wY_run_63 post (nI to) n (nI (x + K)) (nI sc) gT gW (nI J) (nI (h + 1)) 0 (dn_A (rg_d S'.1)) S'.2.1 (dn_A S'.2.2) (dn_A e') bL bT' bO' bH') → (∀ (er : Int32) (ps : Nat), o = some (er, ps) → ∀ e' S' (x' j' v' : Int32) bT' bO' bH', wf_ S' → ag_ R1 S' → wY_run_63 post (nI to) n x' (nI sc) gT (nI ps) j' v' er (dn_A (rg_d S'.1)) S'.2.1 (dn_A S'.2.2) (dn_A e') bL bT' bO' bH') → wY_run_63 post (nI to) (n + K) (nI x) (nI sc) gT gW (nI (J + 1)) (nI h) 0 (dn_A (rg_d S.1)) S.2.1 (dn_A S.2.2) (dn_A e) bL bT bO bH)) : ∀ (R : RR_) (h : Nat), wf_ R → 2 * h + (hi - lo) ≤ 40 → ∃ (o : Option (Int32 × Nat)) (R1 : RR_), wf_ R1 ∧ (∀ (er : Int32) (ps : Nat), o = some (er, ps) → ¬ -1 ≤ er) ∧ (∃ K : Nat, ∀ (post : Int32 → SX → Prop) (n : Nat) (d : Nat → Nat), bd_ d → (o = none → ∀ d', bd_ d' → wX_execute_10 post (nI pe) n (nI (8 + (h + 1))) (nI (p2 + 1)) (nI sc) fC fA fP fW fE fN fT (dn_A (rg_l R1.1)) R1.2.1 (dn_A R1.2.2) aT aO aR aA aK aH aB (dn_A d')) → (∀ (er : Int32) (ps : Nat), o = some (er, ps) → ∀ d', bd_ d' → post er (nI sc, fC, fA, fP, fW, nI ps, fN, fT, dn_A (rg_l R1.1), R1.2.1, dn_A R1.2.2, aT, aO, aR, aA, aK, aH, aB, dn_A d')) → wX_execute_10 post (nI pe) (n + K) (nI (8 + h)) (nI p) (nI sc) fC fA fP fW fE fN fT (dn_A (rg_l R.1)) R.2.1 (dn_A R.2.2) aT aO aR aA aK aH aB (dn_A d)) ∧ (∃ K : Nat, K ≤ 3 * (hi - lo) ∧ ∀ (post : Int32 → SY → Prop) (J : Nat) (bT bO bH : Nat → Int32) (e : Nat → Nat) (x n : Nat) (S : RR_), wf_ S → ag_ R S → J + 3 + 2 * (hi - lo) < 160 → x + 3 * (hi - lo) ≤ 1000 → je_ bT bO bH J 0 lo hi → (o = none → ∀ e' S' bT' bO' bH', wf_ S' → ag_ R1 S' → ja_ bT bO bH bT' bO' bH' J → wY_run_63 post (nI to) n (nI (x + K)) (nI sc) gT gW (nI J) (nI (h + 1)) 0 (dn_A (rg_d S'.1)) S'.2.1 (dn_A S'.2.2) (dn_A e') bL bT' bO' bH') → (∀ (er : Int32) (ps : Nat), o = some (er, ps) → ∀ e' S' (x' j' v' : Int32) bT' bO' bH', wf_ S' → ag_ R1 S' → wY_run_63 post (nI to) n x' (nI sc) gT (nI ps) j' v' er (dn_A (rg_d S'.1)) S'.2.1 (dn_A S'.2.2) (dn_A e') bL bT' bO' bH') → wY_run_63 post (nI to) (n + K) (nI x) (nI sc) gT gW (nI (J + 1)) (nI h) 0 (dn_A (rg_d S.1)) S.2.1 (dn_A S.2.2) (dn_A e) bL bT bO bH) := by
  intro R h wR hh
  have g := G_lt hl
  have g' := G_lt hr
  obtain ⟨o, R1, w1, g1, ⟨K1, x1⟩, ⟨L1, l1, y1⟩⟩ := e1 R h wR (by omega)
  cases o with
  | some er =>
    refine ⟨some er, R1, w1, g1, ⟨K1, fun post n d hd kn ke => x1 post n d hd (fun z => by cases z) ke⟩, ⟨L1 + 1, by omega, fun post J bT bO bH e x n S wS aS hJ hx hj kn ke => yj_bin hT hl hr hm hN (by omega) (by omega) hj (fun bT' bO' bH' j0 j1 j2 j3 => ?_)⟩⟩
    exact y1 post (J + 2) bT' bO' bH' e (x + 1) n S wS aS (by omega) (by omega) j3 (fun z => by cases z) ke
  | none =>
    obtain ⟨o2, R2, w2, g2, ⟨K2, x2⟩, ⟨L2, l2, y2⟩⟩ := e2 R1 (h + 1) w1 (by omega)
    cases o2 with
    | some er =>
      refine ⟨some er, R2, w2, g2, ⟨K2 + K1, fun post n d hd kn ke => ?_⟩, ⟨L2 + L1 + 1, by omega, fun post J bT bO bH e x n S wS aS hJ hx hj kn ke => yj_bin hT hl hr hm hN (by omega) (by omega) hj (fun bT' bO' bH' j0 j1 j2 j3 => ?_)⟩⟩
      · rw [← Nat.add_assoc]
        exact x1 post (n + K2) d hd (fun _ d' hd' => x2 post n d' hd' (fun z => by cases z) ke) (fun er ps y => by cases y)
      · rw [show n.add (L2 + L1) = n + L2 + L1 from (show n + (L2 + L1) = n + L2 + L1 by omega)]
        refine y1 post (J + 2) bT' bO' bH' e (x + 1) (n + L2) S wS aS (by omega) (by omega) j3 (fun _ e' S' bT2 bO2 bH2 wS' aS' j4 => ?_) (fun er ps y => by cases y)
        exact y2 post (J + 1) bT2 bO2 bH2 e' (x + 1 + L1) n S' wS' aS' (by omega) (by omega) (ja_e j4 (by omega) j2) (fun z => by cases z) ke
    | none =>
      have hpo : ∀ S', ag_ R2 S' → po_ (o_bin R2 sc (T m) (8 + h) (8 + (h + 1))) (o_bin S' sc (T m) (8 + h) (8 + (h + 1))) := fun S' a => po_bin a (by omega) (by omega)
      by_cases z : -1 ≤ (o_bin R2 sc (T m) (8 + h) (8 + (h + 1))).1
      · refine ⟨none, (o_bin R2 sc (T m) (8 + h) (8 + (h + 1))).2, wf_bin w2, fun er ps z => (by cases z), ⟨1 + K2 + K1, fun post n d hd kn ke => ?_⟩, ⟨1 + L2 + L1 + 1, by omega, fun post J bT bO bH e x n S wS aS hJ hx hj kn ke => yj_bin hT hl hr hm hN (by omega) (by omega) hj (fun bT' bO' bH' j0 j1 j2 j3 => ?_)⟩⟩
        · rw [show n + (1 + K2 + K1) = n + 1 + K2 + K1 by omega]
          refine x1 post (n + 1 + K2) d hd (fun _ d' hd' => x2 post (n + 1) d' hd' (fun _ d2 hd2 => ?_) (fun er ps y => by cases y)) (fun er ps y => by cases y)
          exact xs_bn w2 hd2 hsc hm (by omega) hpe h2 h3 (by omega) (fun _ d3 hd3 => kn rfl d3 hd3) (fun y => absurd z y)
        · rw [show n.add (1 + L2 + L1) = n + 1 + L2 + L1 from (show n + (1 + L2 + L1) = n + 1 + L2 + L1 by omega)]
          refine y1 post (J + 2) bT' bO' bH' e (x + 1) (n + 1 + L2) S wS aS (by omega) (by omega) j3 (fun _ e' S' bT2 bO2 bH2 wS' aS' j4 => ?_) (fun er ps y => by cases y)
          refine y2 post (J + 1) bT2 bO2 bH2 e' (x + 1 + L1) (n + 1) S' wS' aS' (by omega) (by omega) (ja_e j4 (by omega) j2) (fun _ e3 S3 bT3 bO3 bH3 wS3 aS3 j5 => ?_) (fun er ps y => by cases y)
          have hp := hpo S3 aS3
          refine yj_op wS3 hT hsc hm (by omega) (by omega) (by omega) (ja_e j5 (by omega) (ja_e j4 (by omega) j1)) (by omega) (fun _ e4 S4 wS4 aS4 => ?_) (fun y => absurd (hp.1 ▸ z) y)
          have := kn rfl e4 S4 bT3 bO3 bH3 wS4 (ag_t hp.2 aS4) (ja_t (ja_t j0 j4 (by omega)) j5 (by omega))
          rw [show x + (1 + L2 + L1 + 1) = x + 1 + L1 + L2 + 1 by omega] at this
          exact this
      · refine ⟨some ((o_bin R2 sc (T m) (8 + h) (8 + (h + 1))).1, m), (o_bin R2 sc (T m) (8 + h) (8 + (h + 1))).2, wf_bin w2, fun er ps y => (by cases y; exact z), ⟨1 + K2 + K1, fun post n d hd kn ke => ?_⟩, ⟨1 + L2 + L1 + 1, by omega, fun post J bT bO bH e x n S wS aS hJ hx hj kn ke => yj_bin hT hl hr hm hN (by omega) (by omega) hj (fun bT' bO' bH' j0 j1 j2 j3 => ?_)⟩⟩
        · rw [show n + (1 + K2 + K1) = n + 1 + K2 + K1 by omega]
          refine x1 post (n + 1 + K2) d hd (fun _ d' hd' => x2 post (n + 1) d' hd' (fun _ d2 hd2 => ?_) (fun er ps y => by cases y)) (fun er ps y => by cases y)
          exact xs_bn w2 hd2 hsc hm (by omega) hpe h2 h3 (by omega) (fun y => absurd y z) (fun _ d3 hd3 => ke _ _ rfl d3 hd3)
        · rw [show n.add (1 + L2 + L1) = n + 1 + L2 + L1 from (show n + (1 + L2 + L1) = n + 1 + L2 + L1 by omega)]
          refine y1 post (J + 2) bT' bO' bH' e (x + 1) (n + 1 + L2) S wS aS (by omega) (by omega) j3 (fun _ e' S' bT2 bO2 bH2 wS' aS' j4 => ?_) (fun er ps y => by cases y)
          refine y2 post (J + 1) bT2 bO2 bH2 e' (x + 1 + L1) (n + 1) S' wS' aS' (by omega) (by omega) (ja_e j4 (by omega) j2) (fun _ e3 S3 bT3 bO3 bH3 wS3 aS3 j5 => ?_) (fun er ps y => by cases y)
          have hp := hpo S3 aS3
          refine yj_op wS3 hT hsc hm (by omega) (by omega) (by omega) (ja_e j5 (by omega) (ja_e j4 (by omega) j1)) (by omega) (fun y => absurd (hp.1 ▸ y) z) (fun _ e4 S4 wS4 aS4 => ?_)
          have := ke _ _ rfl e4 S4 (nI (x + 1 + L1 + L2 + 1)) (nI J) (nI (h + 1)) bT3 bO3 bH3 wS4 (ag_t hp.2 aS4)
          rw [hp.1] at this
          exact this
theorem ex_cond (hT : tn_ T N bL) (hpe : pe ≤ 99) (hl : G_ T aO aR aA 3 lo m p p1) (h4 : G_ T aO aR aA 0 (m + 1) c (p1 + 1) p2) (h5 : G_ T aO aR aA 0 (c + 1) hi (p2 + 1) p3) (hm : T m = 21) (hc : T c = 22) (o1 : aO p1 = 34) (r1 : aR p1 = nI (p2 + 1)) (o2 : aO p2 = 35) (r2 : aR p2 = nI p3) (hN : hi ≤ N) (hq : p3 ≤ pe)
    (e1 : ∀ (R : RR_) (h : Nat), wf_ R → 2 * h + (m - lo) ≤ 40 → ∃ (o : Option (Int32 × Nat)) (R1 : RR_), wf_ R1 ∧ (∀ (er : Int32) (ps : Nat), o = some (er, ps) → ¬ -1 ≤ er) ∧ (∃ K : Nat, ∀ (post : Int32 → SX → Prop) (n : Nat) (d : Nat → Nat), bd_ d → (o = none → ∀ d', bd_ d' → wX_execute_10 post (nI pe) n (nI (8 + (h + 1))) (nI p1) (nI sc) fC fA fP fW fE fN fT (dn_A (rg_l R1.1)) R1.2.1 (dn_A R1.2.2) aT aO aR aA aK aH aB (dn_A d')) → (∀ (er : Int32) (ps : Nat), o = some (er, ps) → ∀ d', bd_ d' → post er (nI sc, fC, fA, fP, fW, nI ps, fN, fT, dn_A (rg_l R1.1), R1.2.1, dn_A R1.2.2, aT, aO, aR, aA, aK, aH, aB, dn_A d')) → wX_execute_10 post (nI pe) (n + K) (nI (8 + h)) (nI p) (nI sc) fC fA fP fW fE fN fT (dn_A (rg_l R.1)) R.2.1 (dn_A R.2.2) aT aO aR aA aK aH aB (dn_A d)) ∧ (∃ K : Nat, K ≤ 3 * (m - lo) ∧ ∀ (post : Int32 → SY → Prop) (J : Nat) (bT bO bH : Nat → Int32) (e : Nat → Nat) (x n : Nat) (S : RR_), wf_ S → ag_ R S → J + 3 + 2 * (m - lo) < 160 → x + 3 * (m - lo) ≤ 1000 → je_ bT bO bH J 0 lo m → (o = none → ∀ e' S' bT' bO' bH', wf_ S' → ag_ R1 S' → ja_ bT bO bH bT' bO' bH' J → wY_run_63 post (nI to) n (nI (x + K)) (nI sc) gT gW (nI J) (nI (h + 1)) 0 (dn_A (rg_d S'.1)) S'.2.1 (dn_A S'.2.2) (dn_A e') bL bT' bO' bH') → (∀ (er : Int32) (ps : Nat), o = some (er, ps) → ∀ e' S' (x' j' v' : Int32) bT' bO' bH', wf_ S' → ag_ R1 S' → wY_run_63 post (nI to) n x' (nI sc) gT (nI ps) j' v' er (dn_A (rg_d S'.1)) S'.2.1 (dn_A S'.2.2) (dn_A e') bL bT' bO' bH') → wY_run_63 post (nI to) (n + K) (nI x) (nI sc) gT gW (nI (J + 1)) (nI h) 0 (dn_A (rg_d S.1)) S.2.1 (dn_A S.2.2) (dn_A e) bL bT bO bH)) (e2 : ∀ (R : RR_) (h : Nat), wf_ R → 2 * h + (c - (m + 1)) ≤ 40 → ∃ (o : Option (Int32 × Nat)) (R1 : RR_), wf_ R1 ∧ (∀ (er : Int32) (ps : Nat), o = some (er, ps) → ¬ -1 ≤ er) ∧ (∃ K : Nat, ∀ (post : Int32 → SX → Prop) (n : Nat) (d : Nat → Nat), bd_ d → (o = none → ∀ d', bd_ d' → wX_execute_10 post (nI pe) n (nI (8 + (h + 1))) (nI p2) (nI sc) fC fA fP fW fE fN fT (dn_A (rg_l R1.1)) R1.2.1 (dn_A R1.2.2) aT aO aR aA aK aH aB (dn_A d')) → (∀ (er : Int32) (ps : Nat), o = some (er, ps) → ∀ d', bd_ d' → post er (nI sc, fC, fA, fP, fW, nI ps, fN, fT, dn_A (rg_l R1.1), R1.2.1, dn_A R1.2.2, aT, aO, aR, aA, aK, aH, aB, dn_A d')) → wX_execute_10 post (nI pe) (n + K) (nI (8 + h)) (nI (p1 + 1)) (nI sc) fC fA fP fW fE fN fT (dn_A (rg_l R.1)) R.2.1 (dn_A R.2.2) aT aO aR aA aK aH aB (dn_A d)) ∧ (∃ K : Nat, K ≤ 3 * (c - (m + 1)) ∧ ∀ (post : Int32 → SY → Prop) (J : Nat) (bT bO bH : Nat → Int32) (e : Nat → Nat) (x n : Nat) (S : RR_), wf_ S → ag_ R S → J + 3 + 2 * (c - (m + 1)) < 160 → x + 3 * (c - (m + 1)) ≤ 1000 → je_ bT bO bH J 0 (m + 1) c → (o = none → ∀ e' S' bT' bO' bH', wf_ S' → ag_ R1 S' → ja_ bT bO bH bT' bO' bH' J → wY_run_63 post (nI to) n (nI (x + K)) (nI sc) gT gW (nI J) (nI (h + 1)) 0 (dn_A (rg_d S'.1)) S'.2.1 (dn_A S'.2.2) (dn_A e') bL bT' bO' bH') → (∀ (er : Int32) (ps : Nat), o = some (er, ps) → ∀ e' S' (x' j' v' : Int32) bT' bO' bH', wf_ S' → ag_ R1 S' → wY_run_63 post (nI to) n x' (nI sc) gT (nI ps) j' v' er (dn_A (rg_d S'.1)) S'.2.1 (dn_A S'.2.2) (dn_A e') bL bT' bO' bH') → wY_run_63 post (nI to) (n + K) (nI x) (nI sc) gT gW (nI (J + 1)) (nI h) 0 (dn_A (rg_d S.1)) S.2.1 (dn_A S.2.2) (dn_A e) bL bT bO bH)) (e3 : ∀ (R : RR_) (h : Nat), wf_ R → 2 * h + (hi - (c + 1)) ≤ 40 → ∃ (o : Option (Int32 × Nat)) (R1 : RR_), wf_ R1 ∧ (∀ (er : Int32) (ps : Nat), o = some (er, ps) → ¬ -1 ≤ er) ∧ (∃ K : Nat, ∀ (post : Int32 → SX → Prop) (n : Nat) (d : Nat → Nat), bd_ d → (o = none → ∀ d', bd_ d' → wX_execute_10 post (nI pe) n (nI (8 + (h + 1))) (nI p3) (nI sc) fC fA fP fW fE fN fT (dn_A (rg_l R1.1)) R1.2.1 (dn_A R1.2.2) aT aO aR aA aK aH aB (dn_A d')) → (∀ (er : Int32) (ps : Nat), o = some (er, ps) → ∀ d', bd_ d' → post er (nI sc, fC, fA, fP, fW, nI ps, fN, fT, dn_A (rg_l R1.1), R1.2.1, dn_A R1.2.2, aT, aO, aR, aA, aK, aH, aB, dn_A d')) → wX_execute_10 post (nI pe) (n + K) (nI (8 + h)) (nI (p2 + 1)) (nI sc) fC fA fP fW fE fN fT (dn_A (rg_l R.1)) R.2.1 (dn_A R.2.2) aT aO aR aA aK aH aB (dn_A d)) ∧ (∃ K : Nat, K ≤ 3 * (hi - (c + 1)) ∧ ∀ (post : Int32 → SY → Prop) (J : Nat) (bT bO bH : Nat → Int32) (e : Nat → Nat) (x n : Nat) (S : RR_), wf_ S → ag_ R S → J + 3 + 2 * (hi - (c + 1)) < 160 → x + 3 * (hi - (c + 1)) ≤ 1000 → je_ bT bO bH J 0 (c + 1) hi → (o = none → ∀ e' S' bT' bO' bH', wf_ S' → ag_ R1 S' → ja_ bT bO bH bT' bO' bH' J → wY_run_63 post (nI to) n (nI (x + K)) (nI sc) gT gW (nI J) (nI (h + 1)) 0 (dn_A (rg_d S'.1)) S'.2.1 (dn_A S'.2.2) (dn_A e') bL bT' bO' bH') → (∀ (er : Int32) (ps : Nat), o = some (er, ps) → ∀ e' S' (x' j' v' : Int32) bT' bO' bH', wf_ S' → ag_ R1 S' → wY_run_63 post (nI to) n x' (nI sc) gT (nI ps) j' v' er (dn_A (rg_d S'.1)) S'.2.1 (dn_A S'.2.2) (dn_A e') bL bT' bO' bH') → wY_run_63 post (nI to) (n + K) (nI x) (nI sc) gT gW (nI (J + 1)) (nI h) 0 (dn_A (rg_d S.1)) S.2.1 (dn_A S.2.2) (dn_A e) bL bT bO bH)) : ∀ (R : RR_) (h : Nat), wf_ R → 2 * h + (hi - lo) ≤ 40 → ∃ (o : Option (Int32 × Nat)) (R1 : RR_), wf_ R1 ∧ (∀ (er : Int32) (ps : Nat), o = some (er, ps) → ¬ -1 ≤ er) ∧ (∃ K : Nat, ∀ (post : Int32 → SX → Prop) (n : Nat) (d : Nat → Nat), bd_ d → (o = none → ∀ d', bd_ d' → wX_execute_10 post (nI pe) n (nI (8 + (h + 1))) (nI p3) (nI sc) fC fA fP fW fE fN fT (dn_A (rg_l R1.1)) R1.2.1 (dn_A R1.2.2) aT aO aR aA aK aH aB (dn_A d')) → (∀ (er : Int32) (ps : Nat), o = some (er, ps) → ∀ d', bd_ d' → post er (nI sc, fC, fA, fP, fW, nI ps, fN, fT, dn_A (rg_l R1.1), R1.2.1, dn_A R1.2.2, aT, aO, aR, aA, aK, aH, aB, dn_A d')) → wX_execute_10 post (nI pe) (n + K) (nI (8 + h)) (nI p) (nI sc) fC fA fP fW fE fN fT (dn_A (rg_l R.1)) R.2.1 (dn_A R.2.2) aT aO aR aA aK aH aB (dn_A d)) ∧ (∃ K : Nat, K ≤ 3 * (hi - lo) ∧ ∀ (post : Int32 → SY → Prop) (J : Nat) (bT bO bH : Nat → Int32) (e : Nat → Nat) (x n : Nat) (S : RR_), wf_ S → ag_ R S → J + 3 + 2 * (hi - lo) < 160 → x + 3 * (hi - lo) ≤ 1000 → je_ bT bO bH J 0 lo hi → (o = none → ∀ e' S' bT' bO' bH', wf_ S' → ag_ R1 S' → ja_ bT bO bH bT' bO' bH' J → wY_run_63 post (nI to) n (nI (x + K)) (nI sc) gT gW (nI J) (nI (h + 1)) 0 (dn_A (rg_d S'.1)) S'.2.1 (dn_A S'.2.2) (dn_A e') bL bT' bO' bH') → (∀ (er : Int32) (ps : Nat), o = some (er, ps) → ∀ e' S' (x' j' v' : Int32) bT' bO' bH', wf_ S' → ag_ R1 S' → wY_run_63 post (nI to) n x' (nI sc) gT (nI ps) j' v' er (dn_A (rg_d S'.1)) S'.2.1 (dn_A S'.2.2) (dn_A e') bL bT' bO' bH') → wY_run_63 post (nI to) (n + K) (nI x) (nI sc) gT gW (nI (J + 1)) (nI h) 0 (dn_A (rg_d S.1)) S.2.1 (dn_A S.2.2) (dn_A e) bL bT bO bH) := by
  intro R h wR hh
  have g := G_lt hl
  have g' := G_lt h4
  have g'' := G_lt h5
  obtain ⟨o, R1, w1, g1, ⟨K1, x1⟩, ⟨L1, l1, y1⟩⟩ := e1 R h wR (by omega)
  cases o with
  | some er =>
    refine ⟨some er, R1, w1, g1, ⟨K1, fun post n d hd kn ke => x1 post n d hd (fun z => by cases z) ke⟩, ⟨L1 + 1, by omega, fun post J bT bO bH e x n S wS aS hJ hx hj kn ke => yj_cond hT hl h4 h5 hm hc hN (by omega) (by omega) hj (fun bT' bO' bH' j0 j1 j2 => ?_)⟩⟩
    exact y1 post (J + 1) bT' bO' bH' e (x + 1) n S wS aS (by omega) (by omega) j2 (fun z => by cases z) ke
  | none =>
    by_cases s : R1.2.1 (8 + h) = 0
    · obtain ⟨o2', R2, w2, g2, ⟨K2, x2⟩, ⟨L2, l2, y2⟩⟩ := e3 R1 h w1 (by omega)
      refine ⟨o2', R2, w2, g2, ⟨K2 + 1 + K1, fun post n d hd kn ke => ?_⟩, ⟨L2 + 1 + L1 + 1, by omega, fun post J bT bO bH e x n S wS aS hJ hx hj kn ke => yj_cond hT hl h4 h5 hm hc hN (by omega) (by omega) hj (fun bT' bO' bH' j0 j1 j2 => ?_)⟩⟩
      · rw [show n + (K2 + 1 + K1) = n + K2 + 1 + K1 by omega]
        exact x1 post (n + K2 + 1) d hd (fun _ d' hd' => xs_if (by omega) hpe o1 r1 (by omega) (fun _ => x2 post n d' hd' kn ke) (fun y => absurd s y)) (fun er ps y => by cases y)
      · rw [show n.add (L2 + 1 + L1) = n + L2 + 1 + L1 from (show n + (L2 + 1 + L1) = n + L2 + 1 + L1 by omega)]
        refine y1 post (J + 1) bT' bO' bH' e (x + 1) (n + L2 + 1) S wS aS (by omega) (by omega) j2 (fun _ e' S' bT2 bO2 bH2 wS' aS' j4 => ?_) (fun er ps y => by cases y)
        have hs : S'.2.1 (8 + h) = 0 := by rw [← (aS' (8 + h) (by omega)).2.1]; exact s
        refine yj_ch hT h4 hc (by omega) (by omega) (by omega) (ja_e j4 (by omega) j1) (by omega) (fun _ bT3 bO3 bH3 j5 j6 => ?_) (fun y => absurd hs y)
        refine y2 post J bT3 bO3 bH3 e' (x + 1 + L1 + 1) n S' wS' aS' (by omega) (by omega) j6 (fun z e4 S4 bT4 bO4 bH4 wS4 aS4 j7 => ?_) ke
        have := kn z e4 S4 bT4 bO4 bH4 wS4 aS4 (ja_t (ja_t (ja_t j0 j4 (by omega)) j5 (Nat.le_refl _)) j7 (Nat.le_refl _))
        rw [show x + (L2 + 1 + L1 + 1) = x + 1 + L1 + 1 + L2 by omega] at this
        exact this
    · obtain ⟨o2', R2, w2, g2, ⟨K2, x2⟩, ⟨L2, l2, y2⟩⟩ := e2 R1 h w1 (by omega)
      cases o2' with
      | some er =>
        refine ⟨some er, R2, w2, g2, ⟨K2 + 1 + K1, fun post n d hd kn ke => ?_⟩, ⟨L2 + 1 + L1 + 1, by omega, fun post J bT bO bH e x n S wS aS hJ hx hj kn ke => yj_cond hT hl h4 h5 hm hc hN (by omega) (by omega) hj (fun bT' bO' bH' j0 j1 j2 => ?_)⟩⟩
        · rw [show n + (K2 + 1 + K1) = n + K2 + 1 + K1 by omega]
          exact x1 post (n + K2 + 1) d hd (fun _ d' hd' => xs_if (by omega) hpe o1 r1 (by omega) (fun y => absurd y s) (fun _ => x2 post n d' hd' (fun z => by cases z) ke)) (fun er ps y => by cases y)
        · rw [show n.add (L2 + 1 + L1) = n + L2 + 1 + L1 from (show n + (L2 + 1 + L1) = n + L2 + 1 + L1 by omega)]
          refine y1 post (J + 1) bT' bO' bH' e (x + 1) (n + L2 + 1) S wS aS (by omega) (by omega) j2 (fun _ e' S' bT2 bO2 bH2 wS' aS' j4 => ?_) (fun er ps y => by cases y)
          have hs : ¬ S'.2.1 (8 + h) = 0 := by rw [← (aS' (8 + h) (by omega)).2.1]; exact s
          refine yj_ch hT h4 hc (by omega) (by omega) (by omega) (ja_e j4 (by omega) j1) (by omega) (fun y => absurd y hs) (fun _ bT3 bO3 bH3 j5 j6 => ?_)
          exact y2 post J bT3 bO3 bH3 e' (x + 1 + L1 + 1) n S' wS' aS' (by omega) (by omega) j6 (fun z => by cases z) ke
      | none =>
        refine ⟨none, R2, w2, g2, ⟨1 + K2 + 1 + K1, fun post n d hd kn ke => ?_⟩, ⟨L2 + 1 + L1 + 1, by omega, fun post J bT bO bH e x n S wS aS hJ hx hj kn ke => yj_cond hT hl h4 h5 hm hc hN (by omega) (by omega) hj (fun bT' bO' bH' j0 j1 j2 => ?_)⟩⟩
        · rw [show n + (1 + K2 + 1 + K1) = n + 1 + K2 + 1 + K1 by omega]
          exact x1 post (n + 1 + K2 + 1) d hd (fun _ d' hd' => xs_if (by omega) hpe o1 r1 (by omega) (fun y => absurd y s) (fun _ => x2 post (n + 1) d' hd' (fun _ d2 hd2 => xs_jp (by omega) hpe o2 r2 (kn rfl d2 hd2)) (fun er ps y => by cases y))) (fun er ps y => by cases y)
        · rw [show n.add (L2 + 1 + L1) = n + L2 + 1 + L1 from (show n + (L2 + 1 + L1) = n + L2 + 1 + L1 by omega)]
          refine y1 post (J + 1) bT' bO' bH' e (x + 1) (n + L2 + 1) S wS aS (by omega) (by omega) j2 (fun _ e' S' bT2 bO2 bH2 wS' aS' j4 => ?_) (fun er ps y => by cases y)
          have hs : ¬ S'.2.1 (8 + h) = 0 := by rw [← (aS' (8 + h) (by omega)).2.1]; exact s
          refine yj_ch hT h4 hc (by omega) (by omega) (by omega) (ja_e j4 (by omega) j1) (by omega) (fun y => absurd y hs) (fun _ bT3 bO3 bH3 j5 j6 => ?_)
          refine y2 post J bT3 bO3 bH3 e' (x + 1 + L1 + 1) n S' wS' aS' (by omega) (by omega) j6 (fun z e4 S4 bT4 bO4 bH4 wS4 aS4 j7 => ?_) (fun er ps y => by cases y)
          have := kn rfl e4 S4 bT4 bO4 bH4 wS4 aS4 (ja_t (ja_t (ja_t j0 j4 (by omega)) j5 (Nat.le_refl _)) j7 (Nat.le_refl _))
          rw [show x + (L2 + 1 + L1 + 1) = x + 1 + L1 + 1 + L2 by omega] at this
          exact this
theorem ex_G {l : Nat} (hT : tn_ T N bL) (hsc : sc ≤ 16) (hpe : pe ≤ 99) (hg : G_ T aO aR aA l lo hi p q) : G_ T aO aR aA l lo hi p q ∧ (hi ≤ N → q ≤ pe → ∀ (R : RR_) (h : Nat), wf_ R → 2 * h + (hi - lo) ≤ 40 → ∃ (o : Option (Int32 × Nat)) (R1 : RR_), wf_ R1 ∧ (∀ (er : Int32) (ps : Nat), o = some (er, ps) → ¬ -1 ≤ er) ∧ (∃ K : Nat, ∀ (post : Int32 → SX → Prop) (n : Nat) (d : Nat → Nat), bd_ d → (o = none → ∀ d', bd_ d' → wX_execute_10 post (nI pe) n (nI (8 + (h + 1))) (nI q) (nI sc) fC fA fP fW fE fN fT (dn_A (rg_l R1.1)) R1.2.1 (dn_A R1.2.2) aT aO aR aA aK aH aB (dn_A d')) → (∀ (er : Int32) (ps : Nat), o = some (er, ps) → ∀ d', bd_ d' → post er (nI sc, fC, fA, fP, fW, nI ps, fN, fT, dn_A (rg_l R1.1), R1.2.1, dn_A R1.2.2, aT, aO, aR, aA, aK, aH, aB, dn_A d')) → wX_execute_10 post (nI pe) (n + K) (nI (8 + h)) (nI p) (nI sc) fC fA fP fW fE fN fT (dn_A (rg_l R.1)) R.2.1 (dn_A R.2.2) aT aO aR aA aK aH aB (dn_A d)) ∧ (∃ K : Nat, K ≤ 3 * (hi - lo) ∧ ∀ (post : Int32 → SY → Prop) (J : Nat) (bT bO bH : Nat → Int32) (e : Nat → Nat) (x n : Nat) (S : RR_), wf_ S → ag_ R S → J + 3 + 2 * (hi - lo) < 160 → x + 3 * (hi - lo) ≤ 1000 → je_ bT bO bH J 0 lo hi → (o = none → ∀ e' S' bT' bO' bH', wf_ S' → ag_ R1 S' → ja_ bT bO bH bT' bO' bH' J → wY_run_63 post (nI to) n (nI (x + K)) (nI sc) gT gW (nI J) (nI (h + 1)) 0 (dn_A (rg_d S'.1)) S'.2.1 (dn_A S'.2.2) (dn_A e') bL bT' bO' bH') → (∀ (er : Int32) (ps : Nat), o = some (er, ps) → ∀ e' S' (x' j' v' : Int32) bT' bO' bH', wf_ S' → ag_ R1 S' → wY_run_63 post (nI to) n x' (nI sc) gT (nI ps) j' v' er (dn_A (rg_d S'.1)) S'.2.1 (dn_A S'.2.2) (dn_A e') bL bT' bO' bH') → wY_run_63 post (nI to) (n + K) (nI x) (nI sc) gT gW (nI (J + 1)) (nI h) 0 (dn_A (rg_d S.1)) S.2.1 (dn_A S.2.2) (dn_A e) bL bT bO bH)) := by
  refine hg (fun l lo hi p q => G_ T aO aR aA l lo hi p q ∧ (hi ≤ N → q ≤ pe → ∀ (R : RR_) (h : Nat), wf_ R → 2 * h + (hi - lo) ≤ 40 → ∃ (o : Option (Int32 × Nat)) (R1 : RR_), wf_ R1 ∧ (∀ (er : Int32) (ps : Nat), o = some (er, ps) → ¬ -1 ≤ er) ∧ (∃ K : Nat, ∀ (post : Int32 → SX → Prop) (n : Nat) (d : Nat → Nat), bd_ d → (o = none → ∀ d', bd_ d' → wX_execute_10 post (nI pe) n (nI (8 + (h + 1))) (nI q) (nI sc) fC fA fP fW fE fN fT (dn_A (rg_l R1.1)) R1.2.1 (dn_A R1.2.2) aT aO aR aA aK aH aB (dn_A d')) → (∀ (er : Int32) (ps : Nat), o = some (er, ps) → ∀ d', bd_ d' → post er (nI sc, fC, fA, fP, fW, nI ps, fN, fT, dn_A (rg_l R1.1), R1.2.1, dn_A R1.2.2, aT, aO, aR, aA, aK, aH, aB, dn_A d')) → wX_execute_10 post (nI pe) (n + K) (nI (8 + h)) (nI p) (nI sc) fC fA fP fW fE fN fT (dn_A (rg_l R.1)) R.2.1 (dn_A R.2.2) aT aO aR aA aK aH aB (dn_A d)) ∧ (∃ K : Nat, K ≤ 3 * (hi - lo) ∧ ∀ (post : Int32 → SY → Prop) (J : Nat) (bT bO bH : Nat → Int32) (e : Nat → Nat) (x n : Nat) (S : RR_), wf_ S → ag_ R S → J + 3 + 2 * (hi - lo) < 160 → x + 3 * (hi - lo) ≤ 1000 → je_ bT bO bH J 0 lo hi → (o = none → ∀ e' S' bT' bO' bH', wf_ S' → ag_ R1 S' → ja_ bT bO bH bT' bO' bH' J → wY_run_63 post (nI to) n (nI (x + K)) (nI sc) gT gW (nI J) (nI (h + 1)) 0 (dn_A (rg_d S'.1)) S'.2.1 (dn_A S'.2.2) (dn_A e') bL bT' bO' bH') → (∀ (er : Int32) (ps : Nat), o = some (er, ps) → ∀ e' S' (x' j' v' : Int32) bT' bO' bH', wf_ S' → ag_ R1 S' → wY_run_63 post (nI to) n x' (nI sc) gT (nI ps) j' v' er (dn_A (rg_d S'.1)) S'.2.1 (dn_A S'.2.2) (dn_A e') bL bT' bO' bH') → wY_run_63 post (nI to) (n + K) (nI x) (nI sc) gT gW (nI (J + 1)) (nI h) 0 (dn_A (rg_d S.1)) S.2.1 (dn_A S.2.2) (dn_A e) bL bT bO bH))) ⟨?_, ?_, ?_, ?_, ?_, ?_, ?_, ?_, ?_⟩
  · intro lo p h1 h2 h3
    have g := (gc_G T aO aR aA).1 lo p h1 h2 h3
    exact ⟨g, fun hN hq => ex_reg hT hpe g h1 h2 h3 hN hq⟩
  · intro lo p v h1 h2 h3 h4
    have g := (gc_G T aO aR aA).2.1 lo p v h1 h2 h3 h4
    exact ⟨g, fun hN hq => ex_num hT hpe g h1 h2 h3 h4 hN hq⟩
  · intro lo hi p q h1 h2 h3
    have g := (gc_G T aO aR aA).2.2.1 lo hi p q h1 h2.1 h3
    exact ⟨g, fun hN hq => ex_par hT g h2.1 h1 hN (h2.2 (by omega) hq)⟩
  · intro lo hi p q h1 h2 h3 h4 h5 h6
    have g := (gc_G T aO aR aA).2.2.2.1 lo hi p q h1 h2 h3.1 h4 h5 h6
    exact ⟨g, fun hN hq => ex_sqr hT hsc hpe g h3.1 h1 h5 h6 hN hq (h3.2 (by omega) (by omega))⟩
  · intro lo m hi p p1 p2 h1 h2 h3 h4 h5
    have g := (gc_G T aO aR aA).2.2.2.2.1 lo m hi p p1 p2 h1 h2.1 h3.1 h4 h5
    have g3 := G_lt h3.1
    exact ⟨g, fun hN hq => ex_bin hT hsc hpe h2.1 h3.1 h1 h4 h5 hN hq (h2.2 (by omega) (by omega)) (h3.2 hN (by omega))⟩
  · intro lo hi p q h1 h2 h3
    have g := (gc_G T aO aR aA).2.2.2.2.2.1 lo hi p q h1 h2.1 h3
    exact ⟨g, fun hN hq => ex_neg hT hpe g h2.1 h1 h3 hN hq (h2.2 hN (by omega))⟩
  · intro lo m c hi p p1 p2 p3 h1 h2 h3 h4 h5 h6 h7 h8 h9
    have g := (gc_G T aO aR aA).2.2.2.2.2.2.1 lo m c hi p p1 p2 p3 h1 h2 h3.1 h4.1 h5.1 h6 h7 h8 h9
    have g3 := G_lt h3.1
    have g4 := G_lt h4.1
    have g5 := G_lt h5.1
    exact ⟨g, fun hN hq => ex_cond hT hpe h3.1 h4.1 h5.1 h1 h2 h6 h7 h8 h9 hN hq (h3.2 (by omega) (by omega)) (h4.2 (by omega) (by omega)) (h5.2 hN hq)⟩
  · intro lo hi p q h1 h2 h3 h4 h5
    have g := (gc_G T aO aR aA).2.2.2.2.2.2.2.1 lo hi p q h1 h2 h3.1 h4 h5
    exact ⟨g, fun hN hq => ex_asg hT hpe g h3.1 h1 h2 h4 h5 hN hq (h3.2 hN (by omega))⟩
  · intro l l' lo hi p q h1 h2
    exact ⟨G_w h2.1 h1, h2.2⟩
end
end
section
/-! the component's compiler: what waits, and what stands ready -/
def cx_ (T : Nat → Nat) (O A B K H Q : Nat → Int32) : Nat → Nat → Nat → Nat → Prop
  | 0, lo, p, ml => lo = 0 ∧ p = 0 ∧ ml = 0
  | w + 1, lo, p, ml =>
    (∃ m ml', K w = 16 ∧ T m = 16 ∧ lo = m + 1 ∧ ml = 0 ∧ ml' ≤ 6 ∧ cx_ T O A B K H Q w m p ml') ∨
    (∃ m ml', K w = 18 ∧ Q w = nI m ∧ m < 100 ∧ T m = 18 ∧ T (m + 1) = 16 ∧ lo = m + 2 ∧ ml = 0 ∧ ml' ≤ 6 ∧ cx_ T O A B K H Q w m p ml') ∨
    (∃ m, K w = 19 ∧ H w = nI (T m) ∧ T m < 8 ∧ T (m + 1) = 19 ∧ lo = m + 2 ∧ ml = 0 ∧ cx_ T O A B K H Q w m p 0) ∨
    (∃ m ml', K w = 30 ∧ T m = 11 ∧ lo = m + 1 ∧ ml = 6 ∧ ml' ≤ 6 ∧ cx_ T O A B K H Q w m p ml') ∨
    (∃ m lo' p' ml', bo_ (T m) ∧ K w = nI (T m) ∧ Q w = nI m ∧ m < 100 ∧ lo = m + 1 ∧ ml = rl_ (T m) ∧ ml' ≤ lv_ (T m) ∧ ml' ≤ 6 ∧ cx_ T O A B K H Q w lo' p' ml' ∧ G_ T O A B (ll_ (T m)) lo' m p' p) ∨
    (∃ m lo' p' q, K w = 21 ∧ H w = nI q ∧ T m = 21 ∧ lo = m + 1 ∧ p = q + 1 ∧ ml = 0 ∧ cx_ T O A B K H Q w lo' p' 0 ∧ G_ T O A B 3 lo' m p' q ∧ O q = 34) ∨
    (∃ m c lo' p' q1 q2, K w = 22 ∧ H w = nI q2 ∧ T m = 21 ∧ T c = 22 ∧ lo = c + 1 ∧ p = q2 + 1 ∧ ml = 0 ∧ cx_ T O A B K H Q w lo' p' 0 ∧ G_ T O A B 3 lo' m p' q1 ∧ O q1 = 34 ∧ A q1 = nI (q2 + 1) ∧ G_ T O A B 0 (m + 1) c (q1 + 1) q2 ∧ O q2 = 35)
def ok_ (K bT : Nat → Int32) : Nat → Nat → Prop
  | 0, o => o = 0
  | w + 1, o => ((K w = 16 ∨ K w = 18) ∧ ∃ o', o = o' + 1 ∧ bT o' = 16 ∧ ok_ K bT w o') ∨ (K w = 21 ∧ ∃ o', o = o' + 1 ∧ bT o' = 21 ∧ ok_ K bT w o') ∨ (K w ≠ 16 ∧ K w ≠ 18 ∧ K w ≠ 21 ∧ ok_ K bT w o)
section
variable {T : Nat → Nat} {O A B K H Q O' A' B' K' H' Q' bT bT' : Nat → Int32}
theorem cx_f : ∀ {w lo p ml : Nat}, cx_ T O A B K H Q w lo p ml → (∀ j, j < w → K' j = K j ∧ H' j = H j ∧ Q' j = Q j) → (∀ k, k < p → O' k = O k ∧ A' k = A k ∧ B' k = B k) → cx_ T O' A' B' K' H' Q' w lo p ml
  | 0, lo, p, ml, h, _, _ => h
  | w + 1, lo, p, ml, h, hk, hc => by
    obtain ⟨k1, k2, k3⟩ := hk w (by omega)
    have hk' : ∀ j, j < w → K' j = K j ∧ H' j = H j ∧ Q' j = Q j := fun j hj => hk j (by omega)
    rcases h with ⟨m, ml', a1, a2, a3, a4, a5, a6⟩ | ⟨m, ml', a1, a2, a3, a4, a5, a6, a7, a8, a9⟩ | ⟨m, a1, a2, a3, a4, a5, a6, a7⟩ | ⟨m, ml', a1, a2, a3, a4, a5, a6⟩ | ⟨m, lo', p', ml', a1, a2, a3, a4, a5, a6, a7, a8, a9, a10⟩ | ⟨m, lo', p', q, a1, a2, a3, a4, a5, a6, a7, a8, a9⟩ | ⟨m, c, lo', p', q1, q2, a1, a2, a3, a4, a5, a6, a7, a8, a9, a10, a11, a12, a13⟩
    · exact Or.inl ⟨m, ml', k1.trans a1, a2, a3, a4, a5, cx_f a6 hk' hc⟩
    · exact Or.inr (Or.inl ⟨m, ml', k1.trans a1, k3.trans a2, a3, a4, a5, a6, a7, a8, cx_f a9 hk' hc⟩)
    · exact Or.inr (Or.inr (Or.inl ⟨m, k1.trans a1, k2.trans a2, a3, a4, a5, a6, cx_f a7 hk' hc⟩))
    · exact Or.inr (Or.inr (Or.inr (Or.inl ⟨m, ml', k1.trans a1, a2, a3, a4, a5, cx_f a6 hk' hc⟩)))
    · have g := G_lt a10
      exact Or.inr (Or.inr (Or.inr (Or.inr (Or.inl ⟨m, lo', p', ml', a1, k1.trans a2, k3.trans a3, a4, a5, a6, a7, a8, cx_f a9 hk' (fun k hk => hc k (by omega)), G_f a10 (fun k _ hk => hc k (by omega))⟩))))
    · have g := G_lt a8
      exact Or.inr (Or.inr (Or.inr (Or.inr (Or.inr (Or.inl ⟨m, lo', p', q, k1.trans a1, k2.trans a2, a3, a4, a5, a6, cx_f a7 hk' (fun k hk => hc k (by omega)), G_f a8 (fun k _ hk => hc k (by omega)), (hc q (by omega)).1.trans a9⟩)))))
    · have g := G_lt a9
      have g' := G_lt a12
      exact Or.inr (Or.inr (Or.inr (Or.inr (Or.inr (Or.inr ⟨m, c, lo', p', q1, q2, k1.trans a1, k2.trans a2, a3, a4, a5, a6, a7, cx_f a8 hk' (fun k hk => hc k (by omega)), G_f a9 (fun k _ hk => hc k (by omega)), (hc q1 (by omega)).1.trans a10, (hc q1 (by omega)).2.1.trans a11, G_f a12 (fun k _ hk => hc k (by omega)), (hc q2 (by omega)).1.trans a13⟩)))))
theorem ok_f : ∀ {w o : Nat}, ok_ K bT w o → (∀ j, j < w → K' j = K j) → (∀ j, j < o → bT' j = bT j) → ok_ K' bT' w o
  | 0, o, h, _, _ => h
  | w + 1, o, h, hk, ht => by
    have k1 := hk w (by omega)
    have hk' : ∀ j, j < w → K' j = K j := fun j hj => hk j (by omega)
    rcases h with ⟨a1, o', a2, a3, a4⟩ | ⟨a1, o', a2, a3, a4⟩ | ⟨a1, a2, a3, a4⟩
    · left
      rw [k1]
      exact ⟨a1, o', a2, (ht o' (by omega)).trans a3, ok_f a4 hk' (fun j hj => ht j (by omega))⟩
    · right; left
      rw [k1]
      exact ⟨a1, o', a2, (ht o' (by omega)).trans a3, ok_f a4 hk' (fun j hj => ht j (by omega))⟩
    · right; right
      rw [k1]
      exact ⟨a1, a2, a3, ok_f a4 hk' ht⟩
theorem ok_n {w o : Nat} (h : ok_ K bT (w + 1) o) (h1 : K w ≠ 16) (h2 : K w ≠ 18) (h3 : K w ≠ 21) : ok_ K bT w o := by
  rcases h with ⟨a1, _⟩ | ⟨a1, _⟩ | ⟨_, _, _, a4⟩
  · rcases a1 with z | z
    · exact absurd z h1
    · exact absurd z h2
  · exact absurd a1 h3
  · exact a4
/-- how tightly a kind binds -/
def le_ (t : Nat) : Nat := if t = 20 then 3 else if t = 10 then 4 else if t = 11 then 4 else if t = 12 then 5 else if t = 13 then 5 else if t = 14 then 5 else if t = 30 then 6 else if t = 15 then 7 else 0
theorem le_bo {t : Nat} (h : bo_ t) : le_ t = lv_ t ∧ 3 ≤ lv_ t ∧ lv_ t ≤ 7 := by
  rcases h with e | e | e | e | e | e | e <;> subst e <;> decide
theorem bo_ne {t : Nat} (h : bo_ t) : nI t ≠ 16 ∧ nI t ≠ 18 ∧ nI t ≠ 21 ∧ nI t ≠ 19 ∧ nI t ≠ 22 ∧ t < 100 ∧ 4 ≤ rl_ t ∧ rl_ t ≤ 6 := by
  rcases h with e | e | e | e | e | e | e <;> subst e <;> decide
/-- the kinds of what waits -/
theorem cx_k {w lo p ml : Nat} (h : cx_ T O A B K H Q (w + 1) lo p ml) : ∃ t, K w = nI t ∧ t < 100 ∧ (t = 16 ∨ t = 18 ∨ t = 19 ∨ t = 21 ∨ t = 22 ∨ t = 30 ∨ bo_ t) ∧ (ml = 0 ↔ ¬ (t = 30 ∨ bo_ t)) ∧ ml ≤ 6 := by
  rcases h with ⟨m, ml', a1, a2, a3, a4, a5, a6⟩ | ⟨m, ml', a1, a2, a3, a4, a5, a6, a7, a8, a9⟩ | ⟨m, a1, a2, a3, a4, a5, a6, a7⟩ | ⟨m, ml', a1, a2, a3, a4, a5, a6⟩ | ⟨m, lo', p', ml', a1, a2, a3, a4, a5, a6, a7, a8, a9, a10⟩ | ⟨m, lo', p', q, a1, a2, a3, a4, a5, a6, a7, a8, a9⟩ | ⟨m, c, lo', p', q1, q2, a1, a2, a3, a4, a5, a6, a7, a8, a9, a10, a11, a12, a13⟩
  · exact ⟨16, a1, by decide, Or.inl rfl, ⟨fun _ => by unfold bo_; omega, fun _ => a4⟩, by omega⟩
  · exact ⟨18, a1, by decide, Or.inr (Or.inl rfl), ⟨fun _ => by unfold bo_; omega, fun _ => a7⟩, by omega⟩
  · exact ⟨19, a1, by decide, Or.inr (Or.inr (Or.inl rfl)), ⟨fun _ => by unfold bo_; omega, fun _ => a6⟩, by omega⟩
  · exact ⟨30, a1, by decide, Or.inr (Or.inr (Or.inr (Or.inr (Or.inr (Or.inl rfl))))), ⟨fun z => by omega, fun z => absurd (Or.inl rfl) z⟩, by omega⟩
  · have hb := bo_ne a1
    exact ⟨T m, a2, hb.2.2.2.2.2.1, Or.inr (Or.inr (Or.inr (Or.inr (Or.inr (Or.inr a1))))), ⟨fun z => by omega, fun z => absurd (Or.inr a1) z⟩, by omega⟩
  · exact ⟨21, a1, by decide, Or.inr (Or.inr (Or.inr (Or.inl rfl))), ⟨fun _ => by unfold bo_; omega, fun _ => a6⟩, by omega⟩
  · exact ⟨22, a1, by decide, Or.inr (Or.inr (Or.inr (Or.inr (Or.inl rfl)))), ⟨fun _ => by unfold bo_; omega, fun _ => a7⟩, by omega⟩
end
section
variable {fS fC fA fP fW fE fN fT : Int32} {aL aG aC aT aO aR aA aK aH aB aW : Nat → Int32}
variable {post : SX → Prop} {pi : Int32 → Prop} {T : Nat → Nat}
theorem x_level {t : Nat} (ht : t < 2000) (K : pi (nI (le_ t))) : wpX_level pi (nI t) := by
  rcases Nat.lt_or_ge t 10 with z | z
  · refine br_t (nI_lt (b := 10) z (by decide)) ?_
    unfold le_ at K
    rw [if_neg (by omega), if_neg (by omega), if_neg (by omega), if_neg (by omega), if_neg (by omega), if_neg (by omega), if_neg (by omega), if_neg (by omega)] at K
    exact K
  · rcases Nat.lt_or_ge 30 t with y | y
    · refine br_f (nI_nlt (b := 10) z (by omega)) (br_t (nI_lt (a := 30) y (by omega)) ?_)
      unfold le_ at K
      rw [if_neg (by omega), if_neg (by omega), if_neg (by omega), if_neg (by omega), if_neg (by omega), if_neg (by omega), if_neg (by omega), if_neg (by omega)] at K
      exact K
    · have : t = 10 ∨ t = 11 ∨ t = 12 ∨ t = 13 ∨ t = 14 ∨ t = 15 ∨ t = 16 ∨ t = 17 ∨ t = 18 ∨ t = 19 ∨ t = 20 ∨ t = 21 ∨ t = 22 ∨ t = 23 ∨ t = 24 ∨ t = 25 ∨ t = 26 ∨ t = 27 ∨ t = 28 ∨ t = 29 ∨ t = 30 := by omega
      unfold wpX_level
      rcases this with e | e | e | e | e | e | e | e | e | e | e | e | e | e | e | e | e | e | e | e | e <;> subst e <;>
        repeat (first | exact br_t (by decide) K | refine br_f (by decide) ?_)
theorem x_emit {pc : Nat} {a b c : Int32} (hp : pc < 100) (K : post (fS, fC, fA, nI (pc + 1), fW, fE, fN, fT, aL, aG, aC, aT, upd aO pc (vp_nar .byte a.toInt8.toInt32), upd aR pc (vp_nar .short b.toInt16.toInt32), upd aA pc (vp_nar .byte c.toInt8.toInt32), aK, aH, aB, aW)) : wpX_emit post (fS, fC, fA, nI pc, fW, fE, fN, fT, aL, aG, aC, aT, aO, aR, aA, aK, aH, aB, aW) a b c := by
  have i1 : vp_in (nI pc) 100 := pk_in pc 100 hp
  have rp : (nI pc).toNatClampNeg = pc := nI_clamp (by omega)
  refine ⟨i1, nm_r (e' := upd aO pc (vp_nar .byte a.toInt8.toInt32)) (by rw [rp]) ⟨i1, nm_r (e' := upd aR pc (vp_nar .short b.toInt16.toInt32)) (by rw [rp]) (nm_r (nI_1 pc) ⟨i1, nm_r (e' := upd aA pc (vp_nar .byte c.toInt8.toInt32)) (by rw [rp]) K⟩)⟩⟩
theorem x_hold {w : Nat} {a b c : Int32} (hw : w < 42) (K : post (fS, fC, fA, fP, nI (w + 1), fE, fN, fT, aL, aG, aC, aT, aO, aR, aA, upd aK w (vp_nar .byte a.toInt8.toInt32), upd aH w (vp_nar .byte b.toInt8.toInt32), upd aB w (vp_nar .byte c.toInt8.toInt32), aW)) : wpX_hold post (fS, fC, fA, fP, nI w, fE, fN, fT, aL, aG, aC, aT, aO, aR, aA, aK, aH, aB, aW) a b c := by
  have i1 : vp_in (nI w) 42 := pk_in w 42 hw
  have rp : (nI w).toNatClampNeg = w := nI_clamp (by omega)
  refine ⟨i1, nm_r (e' := upd aK w (vp_nar .byte a.toInt8.toInt32)) (by rw [rp]) ⟨i1, nm_r (e' := upd aH w (vp_nar .byte b.toInt8.toInt32)) (by rw [rp]) (nm_r (nI_1 w) ⟨i1, nm_r (e' := upd aB w (vp_nar .byte c.toInt8.toInt32)) (by rw [rp]) K⟩)⟩⟩
/-- the operators that wait and bind at least so tightly -/
theorem x_redl {i L : Nat} {bT : Nat → Int32} {o : Nat} (hL : 3 ≤ L) (hL2 : L ≤ 8) : ∀ (w pc : Nat) (aO aR aA : Nat → Int32) (lo p ml l : Nat), w < 42 → pc + w < 100 →
    cx_ T aO aR aA aK aH aB w lo p ml → G_ T aO aR aA l lo i p pc → ml ≤ l → L ≤ l → ok_ aK bT w o →
    (∀ (w' pc' : Nat) (aO aR aA : Nat → Int32) (lo p ml l : Nat), w' ≤ w → pc' + w' = pc + w → cx_ T aO aR aA aK aH aB w' lo p ml → G_ T aO aR aA l lo i p pc' → ml ≤ l → L ≤ l → ok_ aK bT w' o → (∀ j, w' = j + 1 → ∃ t, aK j = nI t ∧ t < 100 ∧ le_ t < L) → post (fS, fC, fA, nI pc', nI w', fE, fN, fT, aL, aG, aC, aT, aO, aR, aA, aK, aH, aB, aW)) →
    wX_reduce_0 post (nI L) (w + 1) fS fC fA (nI pc) (nI w) fE fN fT aL aG aC aT aO aR aA aK aH aB aW
  | 0, pc, aO, aR, aA, lo, p, ml, l, hw, hpc, hc, hg, h1, h2, hok, K => pk_le 0 0 (fun _ => K 0 pc aO aR aA lo p ml l (Nat.le_refl _) rfl hc hg h1 h2 hok (fun j hj => by omega)) (fun z => by omega)
  | w + 1, pc, aO, aR, aA, lo, p, ml, l, hw, hpc, hc, hg, h1, h2, hok, K => by
    obtain ⟨t, k1, k2, k3, k4, k5⟩ := cx_k hc
    have rw1 : (nI (w + 1) - 1).toNatClampNeg = w := by rw [nI_pred, nI_clamp (by omega)]
    have i1 : vp_in (nI (w + 1) - 1) 42 := pk_in w 42 (by omega) (nI_pred w)
    have i2 : vp_in (nI w) 42 := pk_in w 42 (by omega)
    have rw2 : (nI w).toNatClampNeg = w := nI_clamp (by omega)
    refine pk_le (w + 1) 0 (fun z => by omega) (fun _ => ⟨i1, ?_⟩)
    rw [rw1, k1]
    have hle8 : le_ t ≤ 7 := by
      unfold le_
      repeat' split
      all_goals omega
    refine x_level (by omega) (pk_lt (le_ t) L (fun z => K (w + 1) pc aO aR aA lo p ml l (Nat.le_refl _) rfl hc hg h1 h2 hok (fun j hj => ⟨t, by rw [show j = w by omega]; exact k1, k2, z⟩)) (fun z => nm_r (nI_pred w) ⟨i2, i2, ?_⟩))
    rw [rw2, k1]
    have hop : t = 30 ∨ bo_ t := by
      have l16 : le_ 16 = 0 := rfl
      have l18 : le_ 18 = 0 := rfl
      have l19 : le_ 19 = 0 := rfl
      have l21 : le_ 21 = 0 := rfl
      have l22 : le_ 22 = 0 := rfl
      rcases k3 with e | e | e | e | e | e | e
      · subst e; omega
      · subst e; omega
      · subst e; omega
      · subst e; omega
      · subst e; omega
      · exact Or.inl e
      · exact Or.inr e
    have hne : nI t ≠ 16 ∧ nI t ≠ 18 ∧ nI t ≠ 21 ∧ nI t ≠ 19 ∧ nI t ≠ 22 := by
      rcases hop with e | e
      · subst e; decide
      · have := bo_ne e
        exact ⟨this.1, this.2.1, this.2.2.1, this.2.2.2.1, this.2.2.2.2.1⟩
    have hok' : ok_ aK bT w o := ok_n hok (by rw [k1]; exact hne.1) (by rw [k1]; exact hne.2.1) (by rw [k1]; exact hne.2.2.1)
    have nt : vp_nar .byte (nI t).toInt8.toInt32 = nI t := na_bb (by omega)
    have g := G_lt hg
    have hfr : ∀ k, k < pc → upd aO pc (vp_nar .byte (nI t).toInt8.toInt32) k = aO k ∧ upd aR pc (vp_nar .short (0 : Int32).toInt16.toInt32) k = aR k ∧ upd aA pc (vp_nar .byte (aB w).toInt8.toInt32) k = aA k := fun k hk => ⟨pk_un (by omega), pk_un (by omega), pk_un (by omega)⟩
    have hsame : ∀ j, j < w → aK j = aK j ∧ aH j = aH j ∧ aB j = aB j := fun j _ => ⟨rfl, rfl, rfl⟩
    refine x_emit (by omega) ?_
    rcases hc with ⟨m, ml', a1, a2, a3, a4, a5, a6⟩ | ⟨m, ml', a1, a2, a3, a4, a5, a6, a7, a8, a9⟩ | ⟨m, a1, a2, a3, a4, a5, a6, a7⟩ | ⟨m, ml', a1, a2, a3, a4, a5, a6⟩ | ⟨m, lo', p', ml', a1, a2, a3, a4, a5, a6, a7, a8, a9, a10⟩ | ⟨m, lo', p', q, a1, a2, a3, a4, a5, a6, a7, a8, a9⟩ | ⟨m, c, lo', p', q1, q2, a1, a2, a3, a4, a5, a6, a7, a8, a9, a10, a11, a12, a13⟩
    · exact absurd (k1.symm.trans a1) hne.1
    · exact absurd (k1.symm.trans a1) hne.2.1
    · exact absurd (k1.symm.trans a1) hne.2.2.2.1
    · have e30 : t = 30 := by
        have := k1.symm.trans a1
        exact (nI_eq (b := 30) (by omega) (by decide)).mp this
      subst e30
      subst a3
      have l30 : le_ 30 = 6 := rfl
      refine x_redl hL hL2 w (pc + 1) _ _ _ m p ml' 6 (by omega) (by omega) (cx_f a6 hsame (fun k hk => hfr k (by omega))) ((gc_G T _ _ _).2.2.2.2.2.1 m i p pc a2 (G_f (G_w hg (by omega)) (fun k _ hk => hfr k (by omega))) (by rw [pk_us]; exact nt)) a5 (by omega) hok' (fun w' pc' O' A' B' lo1 p1 ml1 l1 q1 q2 => K w' pc' O' A' B' lo1 p1 ml1 l1 (by omega) (by omega))
    · have em : T m = t := by
        have := k1.symm.trans a2
        have hb := bo_ne a1
        exact ((nI_eq (by omega) (by omega)).mp this).symm
      subst em
      subst a5
      have hb := le_bo a1
      have nm : vp_nar .byte (aB w).toInt8.toInt32 = nI m := by rw [a3]; exact na_bb (by omega)
      have g10 := G_lt a10
      refine x_redl hL hL2 w (pc + 1) _ _ _ lo' p' ml' (lv_ (T m)) (by omega) (by omega) (cx_f a9 hsame (fun k hk => hfr k (by omega))) ((gc_G T _ _ _).2.2.2.2.1 lo' m i p' p pc a1 (G_f a10 (fun k _ hk => hfr k (by omega))) (G_f (G_w hg (by omega)) (fun k _ hk => hfr k (by omega))) (by rw [pk_us]; exact nt) (by rw [pk_us]; exact nm)) a7 (by omega) hok' (fun w' pc' O' A' B' lo1 p1 ml1 l1 q1 q2 => K w' pc' O' A' B' lo1 p1 ml1 l1 (by omega) (by omega))
    · exact absurd (k1.symm.trans a1) hne.2.2.1
    · exact absurd (k1.symm.trans a1) hne.2.2.2.2
theorem x_red {i L w pc lo p ml l o : Nat} {bT : Nat → Int32} (hL : 3 ≤ L) (hL2 : L ≤ 8) (hw : w < 42) (hpc : pc + w < 100)
    (hc : cx_ T aO aR aA aK aH aB w lo p ml) (hg : G_ T aO aR aA l lo i p pc) (h1 : ml ≤ l) (h2 : L ≤ l) (hok : ok_ aK bT w o)
    (K : ∀ (w' pc' : Nat) (aO aR aA : Nat → Int32) (lo p ml l : Nat), w' ≤ w → pc' + w' = pc + w → cx_ T aO aR aA aK aH aB w' lo p ml → G_ T aO aR aA l lo i p pc' → ml ≤ l → L ≤ l → ok_ aK bT w' o → (∀ j, w' = j + 1 → ∃ t, aK j = nI t ∧ t < 100 ∧ le_ t < L) → post (fS, fC, fA, nI pc', nI w', fE, fN, fT, aL, aG, aC, aT, aO, aR, aA, aK, aH, aB, aW)) :
    wpX_reduce post (fS, fC, fA, nI pc, nI w, fE, fN, fT, aL, aG, aC, aT, aO, aR, aA, aK, aH, aB, aW) (nI L) :=
  ⟨w + 1, x_redl hL hL2 w pc aO aR aA lo p ml l hw hpc hc hg h1 h2 hok K⟩
/-- nothing binds: nothing is written -/
theorem x_red0 {w pc lo p : Nat} (hw : w < 42) (hc : cx_ T aO aR aA aK aH aB w lo p 0) (K : post (fS, fC, fA, nI pc, nI w, fE, fN, fT, aL, aG, aC, aT, aO, aR, aA, aK, aH, aB, aW)) : wpX_reduce post (fS, fC, fA, nI pc, nI w, fE, fN, fT, aL, aG, aC, aT, aO, aR, aA, aK, aH, aB, aW) 3 := by
  refine ⟨1, ?_⟩
  cases w with
  | zero => exact pk_le 0 0 (fun _ => K) (fun z => by omega)
  | succ w =>
    obtain ⟨t, k1, k2, k3, k4, k5⟩ := cx_k hc
    have hl : le_ t = 0 := by
      have := k4.mp rfl
      rcases k3 with e | e | e | e | e | e | e
      · subst e; rfl
      · subst e; rfl
      · subst e; rfl
      · subst e; rfl
      · subst e; rfl
      · exact absurd (Or.inl e) this
      · exact absurd (Or.inr e) this
    refine pk_le (w + 1) 0 (fun z => by omega) (fun _ => ⟨pk_in w 42 (by omega) (nI_pred w), ?_⟩)
    rw [nI_pred, nI_clamp (by omega), k1]
    refine x_level (by omega) ?_
    rw [hl]
    exact br_t (by decide) K
end
end
section
/-! an expr ends; the reference's check, token by token -/
section
variable {fS fC fA fP fW fE fN fT : Int32} {aL aG aC aT aO aR aA aK aH aB aW : Nat → Int32}
variable {post : SX → Prop} {T : Nat → Nat}
theorem x_eel {i o : Nat} {bT : Nat → Int32} : ∀ (w pc : Nat) (aO aR aA : Nat → Int32) (lo p : Nat), w < 42 → pc + w < 100 →
    cx_ T aO aR aA aK aH aB w lo p 0 → G_ T aO aR aA 0 lo i p pc → ok_ aK bT w o →
    (∀ (w' pc' : Nat) (aO aR aA : Nat → Int32) (lo p : Nat), w' ≤ w → pc' + w' ≤ pc + w → cx_ T aO aR aA aK aH aB w' lo p 0 → G_ T aO aR aA 0 lo i p pc' → ok_ aK bT w' o → (∀ j, w' = j + 1 → aK j = 16 ∨ aK j = 18 ∨ aK j = 21) → post (fS, fC, fA, nI pc', nI w', fE, fN, fT, aL, aG, aC, aT, aO, aR, aA, aK, aH, aB, aW)) →
    wX_endExpr_5 post (w + 1) fS fC fA (nI pc) (nI w) fE fN fT aL aG aC aT aO aR aA aK aH aB aW
  | 0, pc, aO, aR, aA, lo, p, hw, hpc, hc, hg, hok, K => pk_le 0 0 (fun _ => K 0 pc aO aR aA lo p (Nat.le_refl _) (Nat.le_refl _) hc hg hok (fun j hj => by omega)) (fun z => by omega)
  | w + 1, pc, aO, aR, aA, lo, p, hw, hpc, hc, hg, hok, K => by
    have i1 : vp_in (nI (w + 1) - 1) 42 := pk_in w 42 (by omega) (nI_pred w)
    have i2 : vp_in (nI w) 42 := pk_in w 42 (by omega)
    have rw1 : (nI (w + 1) - 1).toNatClampNeg = w := by rw [nI_pred, nI_clamp (by omega)]
    have rw2 : (nI w).toNatClampNeg = w := nI_clamp (by omega)
    have g := G_lt hg
    have hsame : ∀ j, j < w → aK j = aK j ∧ aH j = aH j ∧ aB j = aB j := fun j _ => ⟨rfl, rfl, rfl⟩
    obtain ⟨t, k1, k2, k3, k4, k5⟩ := cx_k hc
    refine pk_le (w + 1) 0 (fun z => by omega) (fun _ => ⟨i1, ?_⟩)
    rw [rw1]
    have stop : (aK w = 16 ∨ aK w = 18 ∨ aK w = 21) → post (fS, fC, fA, nI pc, nI (w + 1), fE, fN, fT, aL, aG, aC, aT, aO, aR, aA, aK, aH, aB, aW) := fun z =>
      K (w + 1) pc aO aR aA lo p (Nat.le_refl _) (Nat.le_refl _) hc hg hok (fun j hj => by rw [show j = w by omega]; exact z)
    have no19 : (aK w = 16 ∨ aK w = 18 ∨ aK w = 21) → ¬ aK w = 19 ∧ ¬ aK w = 22 := by
      rintro (z | z | z) <;> rw [z] <;> decide
    rcases hc with ⟨m, ml', a1, a2, a3, a4, a5, a6⟩ | ⟨m, ml', a1, a2, a3, a4, a5, a6, a7, a8, a9⟩ | ⟨m, a1, a2, a3, a4, a5, a6, a7⟩ | ⟨m, ml', a1, a2, a3, a4, a5, a6⟩ | ⟨m, lo', p', ml', a1, a2, a3, a4, a5, a6, a7, a8, a9, a10⟩ | ⟨m, lo', p', q, a1, a2, a3, a4, a5, a6, a7, a8, a9⟩ | ⟨m, c, lo', p', q1, q2, a1, a2, a3, a4, a5, a6, a7, a8, a9, a10, a11, a12, a13⟩
    · have n := no19 (Or.inl a1)
      exact br_f n.1 ⟨i1, br_f n.2 (stop (Or.inl a1))⟩
    · have n := no19 (Or.inr (Or.inl a1))
      exact br_f n.1 ⟨i1, br_f n.2 (stop (Or.inr (Or.inl a1)))⟩
    · subst a5
      have hok' : ok_ aK bT w o := ok_n hok (by rw [a1]; decide) (by rw [a1]; decide) (by rw [a1]; decide)
      refine br_t a1 (nm_r (nI_pred w) ⟨i2, ?_⟩)
      rw [rw2]
      refine br_t a1 ⟨i2, i2, x_emit (by omega) ?_⟩
      have hfr : ∀ k, k < pc → upd aO pc (vp_nar .byte (33 : Int32).toInt8.toInt32) k = aO k ∧ upd aR pc (vp_nar .short (aH w).toInt16.toInt32) k = aR k ∧ upd aA pc (vp_nar .byte (aB w).toInt8.toInt32) k = aA k := fun k hk => ⟨pk_un (by omega), pk_un (by omega), pk_un (by omega)⟩
      have hcx := cx_f a7 hsame (fun k hk => hfr k (by omega))
      refine x_red0 (by omega) hcx ?_
      refine x_eel w (pc + 1) _ _ _ m p (by omega) (by omega) hcx ((gc_G T _ _ _).2.2.2.2.2.2.2.1 m i p pc a3 a4 (G_f hg (fun k _ hk => hfr k (by omega))) ?_ ?_) hok' (fun w' pc' O' A' B' lo1 p1 q1 q2 => K w' pc' O' A' B' lo1 p1 (by omega) (by omega))
      · rw [pk_us]; exact na_bb (v := 33) (by decide)
      · rw [pk_us, a2]; exact na_ss (by omega)
    · omega
    · have := bo_ne a1
      omega
    · have n := no19 (Or.inr (Or.inr a1))
      exact br_f n.1 ⟨i1, br_f n.2 (stop (Or.inr (Or.inr a1)))⟩
    · subst a5
      subst a6
      have g9 := G_lt a9
      have g12 := G_lt a12
      have hok' : ok_ aK bT w o := ok_n hok (by rw [a1]; decide) (by rw [a1]; decide) (by rw [a1]; decide)
      refine br_f (by rw [a1]; decide) ⟨i1, br_t a1 (nm_r (nI_pred w) ⟨i2, ?_⟩)⟩
      rw [rw2, a2]
      refine br_f (by rw [a1]; decide) ⟨i2, pk_in q2 100 (by omega), nm_r (e' := upd aR q2 (nI pc)) (by rw [nI_clamp (by omega), na_ss (by omega)]) ?_⟩
      have hfr : ∀ k, k ≠ q2 → aO k = aO k ∧ upd aR q2 (nI pc) k = aR k ∧ aA k = aA k := fun k hk => ⟨rfl, pk_un hk, rfl⟩
      have hcx := cx_f (A' := upd aR q2 (nI pc)) a8 hsame (fun k hk => hfr k (by omega))
      refine x_red0 (by omega) hcx ?_
      refine x_eel w pc _ _ _ lo' p' (by omega) (by omega) hcx ((gc_G T _ _ _).2.2.2.2.2.2.1 lo' m c i p' q1 q2 pc a3 a4 (G_f a9 (fun k _ hk => hfr k (by omega))) (G_f a12 (fun k _ hk => hfr k (by omega))) (G_f hg (fun k hk _ => hfr k (by omega))) a10 ?_ a13 pk_us) hok' (fun w' pc' O' A' B' lo1 p1 r1 r2 => K w' pc' O' A' B' lo1 p1 (by omega) (by omega))
      rw [pk_un (by omega)]; exact a11
theorem x_ee {i o w pc lo p ml : Nat} {bT : Nat → Int32} (hw : w < 42) (hpc : pc + w < 100) (hc : cx_ T aO aR aA aK aH aB w lo p ml) (hml : ml ≤ 6) (hg : G_ T aO aR aA 8 lo i p pc) (hok : ok_ aK bT w o)
    (K : ∀ (w' pc' : Nat) (aO aR aA : Nat → Int32) (lo p : Nat), w' ≤ w → pc' + w' ≤ pc + w → cx_ T aO aR aA aK aH aB w' lo p 0 → G_ T aO aR aA 0 lo i p pc' → ok_ aK bT w' o → (∀ j, w' = j + 1 → aK j = 16 ∨ aK j = 18 ∨ aK j = 21) → post (fS, fC, fA, nI pc', nI w', fE, fN, fT, aL, aG, aC, aT, aO, aR, aA, aK, aH, aB, aW)) :
    wpX_endExpr post (fS, fC, fA, nI pc, nI w, fE, fN, fT, aL, aG, aC, aT, aO, aR, aA, aK, aH, aB, aW) := by
  unfold wpX_endExpr
  refine x_red (L := 3) (by decide) (by decide) hw hpc hc hg (by omega) (by decide) hok (fun w' pc' O' A' B' lo1 p1 ml1 l1 b1 b2 b3 b4 b5 b6 b7 b8 => ?_)
  have h0 : ml1 = 0 := by
    cases w' with
    | zero => exact b3.2.2
    | succ j =>
      obtain ⟨t, k1, k2, k3, k4, k5⟩ := cx_k b3
      obtain ⟨t', e1, e2, e3⟩ := b8 j rfl
      have e4 : t = t' := (nI_eq (by omega) (by omega)).mp (k1.symm.trans e1)
      subst e4
      refine k4.mpr (fun z => ?_)
      rcases z with z | z
      · subst z; exact absurd e3 (by decide)
      · have := le_bo z; omega
  subst h0
  exact ⟨w' + 1, x_eel w' pc' O' A' B' lo1 p1 (by omega) (by omega) b3 (G_w b4 (Nat.zero_le _)) b7 (fun w2 pc2 O2 A2 B2 lo2 p2 c1 c2 => K w2 pc2 O2 A2 B2 lo2 p2 (by omega) (by omega))⟩
end
section
variable {gP gT gW gJ gV gE : Int32} {bD bG bP bW bL bT bO bH : Nat → Int32}
variable {post : Int32 → SY → Prop} {T : Nat → Nat} {n N o i t k : Nat}
/-- the state behind a token that fits -/
theorem y_241 (hi : i < 40) (ho : o < 50) (ht : t < 2000) (hk : k < 10)
    (K1 : (t = 16 ∨ t = 21) → wY_misfit_7 post (nI n) gP gT gW gJ gV gE N (nI (o + 1)) (nI k) (nI (i + 1)) bD bG bP bW bL (upd bT o (nI t)) bO bH)
    (K2 : (t = 17 ∨ t = 22) → ∃ o', o = o' + 1 ∧ wY_misfit_7 post (nI n) gP gT gW gJ gV gE N (nI o') (nI k) (nI (i + 1)) bD bG bP bW bL bT bO bH)
    (K3 : t ≠ 16 → t ≠ 21 → t ≠ 17 → t ≠ 22 → wY_misfit_7 post (nI n) gP gT gW gJ gV gE N (nI o) (nI k) (nI (i + 1)) bD bG bP bW bL bT bO bH) :
    wY_misfit_241 post (wY_misfit_7 post (nI n) gP gT gW gJ gV gE N) (nI n) (nI o) (nI i) (nI t) (nI k) gP gT gW gJ gV gE bD bG bP bW bL bT bO bH := by
  have g263 : (t = 16 ∨ t = 21) → wY_misfit_263 post (wY_misfit_7 post (nI n) gP gT gW gJ gV gE N) (nI n) (nI o) (nI i) (nI t) (nI k) gP gT gW gJ gV gE bD bG bP bW bL bT bO bH := by
    intro z
    refine nm_r (nI_1 o) ⟨pk_in o 160 (by omega), nm_r (e' := upd bT o (nI t)) (by rw [nI_clamp (by omega)]) (pk_eq t 17 (fun y => by omega) (fun y => pk_eq t 22 (fun x => by omega) (fun x => nm_r (nI_1 i) (K1 z)) rfl rfl (by omega)) rfl rfl (by omega))⟩
  refine br_t (nI_pos' (by omega)) (pk_eq t 16 (fun z => g263 (Or.inl z)) (fun z => pk_eq t 21 (fun y => g263 (Or.inr y)) (fun y => pk_eq t 17 (fun x => ?_) (fun x => pk_eq t 22 (fun w => ?_) (fun w => nm_r (nI_1 i) (K3 z y x w)) rfl rfl (by omega)) rfl rfl (by omega)) rfl rfl (by omega)) rfl rfl (by omega))
  · obtain ⟨o', e1, e2⟩ := K2 (Or.inl x)
    subst e1
    exact nm_r (pk_m1 o') (nm_r (nI_1 i) e2)
  · obtain ⟨o', e1, e2⟩ := K2 (Or.inr w)
    subst e1
    exact nm_r (pk_m1 o') (nm_r (nI_1 i) e2)
theorem y_241n (K : post (nI i) (gP, gT, gW, gJ, gV, gE, bD, bG, bP, bW, bL, bT, bO, bH)) : wY_misfit_241 post (wY_misfit_7 post (nI n) gP gT gW gJ gV gE N) (nI n) (nI o) (nI i) (nI t) (-1) gP gT gW gJ gV gE bD bG bP bW bL bT bO bH := br_f (by decide) K
/-- to the token: tp is the last one that waits for its end -/
theorem y_mf0 {wt tp : Nat} (hi : i < n) (hn : n ≤ 40) (ho : o < 50) (hb : bL i = nI t) (htp : o = 0 ∧ tp = 0 ∨ ∃ o', o = o' + 1 ∧ bT o' = nI tp)
    (K : wY_misfit_38 post (wY_misfit_7 post (nI n) gP gT gW gJ gV gE N) (nI n) (nI o) (nI wt) (nI i) (nI t) (nI tp) gP gT gW gJ gV gE bD bG bP bW bL bT bO bH) :
    wY_misfit_7 post (nI n) gP gT gW gJ gV gE (N + 1) (nI o) (nI wt) (nI i) bD bG bP bW bL bT bO bH := by
  refine pk_le n i (fun z => by omega) (fun _ => ⟨pk_in i 40 (by omega), nm_r (e' := nI t) (by rw [nI_clamp (by omega), hb]) ?_⟩)
  rcases htp with ⟨z1, z2⟩ | ⟨o', z1, z2⟩
  · subst z1; subst z2
    exact pk_le 0 0 (fun _ => K) (fun z => by omega)
  · subst z1
    refine pk_le (o' + 1) 0 (fun z => by omega) (fun _ => ⟨pk_in o' 160 (by omega) (nI_pred o'), ?_⟩)
    rw [nI_pred, nI_clamp (by omega), z2]
    exact K
/-- an operand is wanted -/
theorem y_w {wt tp : Nat} (hw : wt < 2) (ht : t < 2000)
    (K : ∀ k : Nat, ((t < 8 ∧ k = 3 + wt) ∨ (999 < t ∧ k = 3) ∨ (t = 11 ∧ k = 0) ∨ (t = 16 ∧ k = 1) ∨ (t = 18 ∧ k = 2)) → wY_misfit_241 post (wY_misfit_7 post (nI n) gP gT gW gJ gV gE N) (nI n) (nI o) (nI i) (nI t) (nI k) gP gT gW gJ gV gE bD bG bP bW bL bT bO bH)
    (K0 : (8 ≤ t ∧ t ≤ 999 ∧ t ≠ 11 ∧ t ≠ 16 ∧ t ≠ 18) → post (nI i) (gP, gT, gW, gJ, gV, gE, bD, bG, bP, bW, bL, bT, bO, bH)) :
    wY_misfit_38 post (wY_misfit_7 post (nI n) gP gT gW gJ gV gE N) (nI n) (nI o) (nI wt) (nI i) (nI t) (nI tp) gP gT gW gJ gV gE bD bG bP bW bL bT bO bH := by
  refine pk_eq wt 2 (fun z => by omega) (fun _ => pk_le 2 wt (fun z => by omega) (fun _ => pk_le 8 t (fun z => pk_le t 999 (fun y => pk_eq t 11 (fun x => K 0 (by omega)) (fun x => pk_eq t 16 (fun w => K 1 (by omega)) (fun w => pk_eq t 18 (fun v => K 2 (by omega)) (fun v => y_241n (K0 (by omega))) rfl rfl (by omega)) rfl rfl (by omega)) rfl rfl (by omega)) (fun y => K 3 (by omega)) rfl rfl (by omega)) (fun z => ?_) rfl rfl (by decide) (by omega)))
  show wY_misfit_241 _ _ _ _ _ _ (3 + nI wt) _ _ _ _ _ _ _ _ _ _ _ _ _ _
  rw [show (3 : Int32) + nI wt = nI (3 + wt) from nI_add 3 wt]
  exact K (3 + wt) (Or.inl ⟨z, rfl⟩)
/-- a bracket is wanted -/
theorem y_w2 {tp : Nat} (ht : t < 2000) (K : t = 16 → wY_misfit_241 post (wY_misfit_7 post (nI n) gP gT gW gJ gV gE N) (nI n) (nI o) (nI i) (nI t) (nI 1) gP gT gW gJ gV gE bD bG bP bW bL bT bO bH) (K0 : t ≠ 16 → post (nI i) (gP, gT, gW, gJ, gV, gE, bD, bG, bP, bW, bL, bT, bO, bH)) :
    wY_misfit_38 post (wY_misfit_7 post (nI n) gP gT gW gJ gV gE N) (nI n) (nI o) (nI 2) (nI i) (nI t) (nI tp) gP gT gW gJ gV gE bD bG bP bW bL bT bO bH :=
  br_t rfl (pk_eq t 16 (fun z => K z) (fun z => y_241n (K0 z)) rfl rfl (by omega))
/-- behind an operand -/
theorem y_w3 {wt tp : Nat} (hw : wt = 3 ∨ (wt = 4 ∧ t ≠ 19)) (ht : t < 2000) (htp : tp < 100)
    (K : ∀ k : Nat, ((bo_ t ∧ k = 0) ∨ (t = 21 ∧ k = 1) ∨ (t = 22 ∧ tp = 21 ∧ k = 1) ∨ (t = 17 ∧ tp = 16 ∧ k = 3)) → wY_misfit_241 post (wY_misfit_7 post (nI n) gP gT gW gJ gV gE N) (nI n) (nI o) (nI i) (nI t) (nI k) gP gT gW gJ gV gE bD bG bP bW bL bT bO bH)
    (K0 : (t < 10 ∨ t = 16 ∨ t = 18 ∨ t = 19 ∨ 22 < t ∨ (t = 22 ∧ tp ≠ 21) ∨ (t = 17 ∧ tp ≠ 16)) → post (nI i) (gP, gT, gW, gJ, gV, gE, bD, bG, bP, bW, bL, bT, bO, bH)) :
    wY_misfit_38 post (wY_misfit_7 post (nI n) gP gT gW gJ gV gE N) (nI n) (nI o) (nI wt) (nI i) (nI t) (nI tp) gP gT gW gJ gV gE bD bG bP bW bL bT bO bH := by
  have g148 : (t ≤ 9 ∨ 16 ≤ t) → wY_misfit_148 post (wY_misfit_7 post (nI n) gP gT gW gJ gV gE N) (nI n) (nI o) (nI wt) (nI i) (nI t) (nI tp) (-1) gP gT gW gJ gV gE bD bG bP bW bL bT bO bH := by
    intro h16
    refine pk_eq t 20 (fun z => K 0 (Or.inl ⟨Or.inl z, rfl⟩)) (fun z0 => pk_eq t 19 (fun z => pk_eq wt 4 (fun y => by omega) (fun y => y_241n (K0 (by omega)))) (fun z1 => pk_eq t 21 (fun z => K 1 (by omega)) (fun z2 => pk_eq t 22 (fun z => pk_eq tp 21 (fun y => K 1 (by omega)) (fun y => y_241n (K0 (by omega)))) (fun z3 => pk_eq t 17 (fun z => pk_eq tp 16 (fun y => K 3 (by omega)) (fun y => y_241n (K0 (by omega)))) (fun z4 => y_241n (K0 (by omega))) rfl rfl (by omega)) rfl rfl (by omega)) rfl rfl (by omega)) rfl rfl (by omega)) rfl rfl (by omega)
  refine pk_eq wt 2 (fun z => by omega) (fun _ => pk_le 2 wt (fun _ => pk_le t 9 (fun y => g148 (Or.inl y)) (fun y => pk_lt t 16 (fun x => K 0 (Or.inl ⟨by unfold bo_; omega, rfl⟩)) (fun x => g148 (Or.inr x)) rfl rfl (by omega)) rfl rfl (by omega)) (fun z => by omega))
/-- the end of the line -/
theorem y_mfe {wt : Nat} (hw : wt < 5) (ho : o < 50) (hn : n ≤ 40) (K1 : wt ≤ 2 → post (nI n) (gP, gT, gW, gJ, gV, gE, bD, bG, bP, bW, bL, bT, bO, bH)) (K2 : 2 < wt → o = 0 → post (-1) (gP, gT, gW, gJ, gV, gE, bD, bG, bP, bW, bL, bT, bO, bH)) (K3 : 2 < wt → o ≠ 0 → post (nI n) (gP, gT, gW, gJ, gV, gE, bD, bG, bP, bW, bL, bT, bO, bH)) :
    wY_misfit_7 post (nI n) gP gT gW gJ gV gE 1 (nI o) (nI wt) (nI n) bD bG bP bW bL bT bO bH :=
  br_t (nI_le (Nat.le_refl _) (by omega)) (pk_le wt 2 (fun z => K1 z) (fun z => pk_eq o 0 (fun y => K2 z y) (fun y => K3 z y)))
end
end
section
/-! the check of a line as a function; the reference computes it -/
def nx_ (wt t : Nat) (tp : Int32) : Option Nat :=
  if wt = 2 then (if t = 16 then some 1 else none)
  else if wt < 2 then (if t < 8 then some (3 + wt) else if 999 < t then some 3 else if t = 11 then some 0 else if t = 16 then some 1 else if t = 18 then some 2 else none)
  else if (9 < t ∧ t < 16) ∨ t = 20 then some 0 else if t = 19 then (if wt = 4 then some 1 else none) else if t = 21 then some 1
  else if t = 22 then (if tp = 21 then some 1 else none) else if t = 17 then (if tp = 16 then some 3 else none) else none
def tp_ (o : Nat) (bT : Nat → Int32) : Int32 := if o = 0 then 0 else bT (o - 1)
def po1_ (t o : Nat) : Nat := if t = 16 ∨ t = 21 then o + 1 else if t = 17 ∨ t = 22 then o - 1 else o
def pb1_ (t o : Nat) (bT : Nat → Int32) : Nat → Int32 := if t = 16 ∨ t = 21 then upd bT o (nI t) else bT
def mf_ (T : Nat → Nat) : Nat → Nat → Nat → Nat → (Nat → Int32) → Option Nat
  | 0, i, wt, o, _ => if 2 < wt ∧ o = 0 then none else some i
  | m + 1, i, wt, o, bT => match nx_ wt (T i) (tp_ o bT) with
    | none => some i
    | some k => mf_ T m (i + 1) k (po1_ (T i) o) (pb1_ (T i) o bT)
theorem mf_n {T : Nat → Nat} {m i wt o : Nat} {bT : Nat → Int32} (h : nx_ wt (T i) (tp_ o bT) = none) : mf_ T (m + 1) i wt o bT = some i := by
  show (match nx_ wt (T i) (tp_ o bT) with | none => some i | some k => mf_ T m (i + 1) k (po1_ (T i) o) (pb1_ (T i) o bT)) = _
  rw [h]
theorem mf_s {T : Nat → Nat} {m i wt o k : Nat} {bT : Nat → Int32} (h : nx_ wt (T i) (tp_ o bT) = some k) : mf_ T (m + 1) i wt o bT = mf_ T m (i + 1) k (po1_ (T i) o) (pb1_ (T i) o bT) := by
  show (match nx_ wt (T i) (tp_ o bT) with | none => some i | some k => mf_ T m (i + 1) k (po1_ (T i) o) (pb1_ (T i) o bT)) = _
  rw [h]
section
variable {gP gT gW gJ gV gE : Int32} {bD bG bP bW bL bT bO bH : Nat → Int32}
variable {T : Nat → Nat} {n : Nat}
theorem y_w4 {post : Int32 → SY → Prop} {N o i tp : Nat}
    (K : wY_misfit_241 post (wY_misfit_7 post (nI n) gP gT gW gJ gV gE N) (nI n) (nI o) (nI i) (nI 19) (nI 1) gP gT gW gJ gV gE bD bG bP bW bL bT bO bH) :
    wY_misfit_38 post (wY_misfit_7 post (nI n) gP gT gW gJ gV gE N) (nI n) (nI o) (nI 4) (nI i) (nI 19) (nI tp) gP gT gW gJ gV gE bD bG bP bW bL bT bO bH :=
  br_f (by decide) (br_t (by decide) (br_f (by decide) (br_f (by decide) (br_f (by decide) (br_t rfl (br_t rfl K))))))
theorem y_mfl (hT : tn_ T n bL) (post : Int32 → SY → Prop) : ∀ (m i wt o : Nat) (bT : Nat → Int32), i + m = n → wt < 5 → o ≤ i → (∀ j, j < o → bT j = 16 ∨ bT j = 21) →
    (mf_ T m i wt o bT = none → ∀ bT, post (-1) (gP, gT, gW, gJ, gV, gE, bD, bG, bP, bW, bL, bT, bO, bH)) → (∀ j, mf_ T m i wt o bT = some j → ∀ bT, post (nI j) (gP, gT, gW, gJ, gV, gE, bD, bG, bP, bW, bL, bT, bO, bH)) →
    wY_misfit_7 post (nI n) gP gT gW gJ gV gE (m + 1) (nI o) (nI wt) (nI i) bD bG bP bW bL bT bO bH
  | 0, i, wt, o, bT, hi, hw, ho, hs, K1, K2 => by
    have h40 := hT.1
    have e : i = n := by omega
    subst e
    refine y_mfe hw (by omega) (by omega) (fun z => K2 _ (if_neg (by omega)) bT) (fun z y => K1 (if_pos ⟨z, y⟩) bT) (fun z y => K2 _ (if_neg (by omega)) bT)
  | m + 1, i, wt, o, bT, hi, hw, ho, hs, K1, K2 => by
    have h40 := hT.1
    obtain ⟨e1, e2⟩ := hT.2 i (by omega)
    obtain ⟨tp, htp, htp2, htp3⟩ : ∃ tp : Nat, (o = 0 ∧ tp = 0 ∨ ∃ o', o = o' + 1 ∧ bT o' = nI tp) ∧ tp < 100 ∧ tp_ o bT = nI tp := by
      cases o with
      | zero => exact ⟨0, Or.inl ⟨rfl, rfl⟩, by decide, if_pos rfl⟩
      | succ o' =>
        rcases hs o' (by omega) with z | z
        · exact ⟨16, Or.inr ⟨o', rfl, z⟩, by decide, by unfold tp_; rw [if_neg (by omega), Nat.add_sub_cancel, z]; rfl⟩
        · exact ⟨21, Or.inr ⟨o', rfl, z⟩, by decide, by unfold tp_; rw [if_neg (by omega), Nat.add_sub_cancel, z]; rfl⟩
    have tpe : ∀ c : Nat, c < 100 → (nI tp = nI c ↔ tp = c) := fun c hc => nI_eq (by omega) (by omega)
    refine y_mf0 (t := T i) (tp := tp) (by omega) (by omega) (by omega) e1 htp ?_
    have bad : nx_ wt (T i) (tp_ o bT) = none → post (nI i) (gP, gT, gW, gJ, gV, gE, bD, bG, bP, bW, bL, bT, bO, bH) := fun h => K2 i (mf_n h) bT
    have good : ∀ k, k < 5 → nx_ wt (T i) (tp_ o bT) = some k → wY_misfit_241 post (wY_misfit_7 post (nI n) gP gT gW gJ gV gE (m + 1)) (nI n) (nI o) (nI i) (nI (T i)) (nI k) gP gT gW gJ gV gE bD bG bP bW bL bT bO bH := by
      intro k hk h
      rw [mf_s h] at K1 K2
      have rc := y_mfl hT post m (i + 1) k (po1_ (T i) o) (pb1_ (T i) o bT) (by omega) hk
      refine y_241 (by omega) (by omega) e2 (by omega) (fun z => ?_) (fun z => ?_) (fun z1 z2 z3 z4 => ?_)
      · have p1 : po1_ (T i) o = o + 1 := if_pos z
        have p2 : pb1_ (T i) o bT = upd bT o (nI (T i)) := if_pos z
        rw [p1, p2] at rc K1 K2
        refine rc (by omega) (fun j hj => ?_) K1 K2
        by_cases y : j = o
        · subst y; rw [pk_us]
          rcases z with x | x <;> rw [x]
          · left; rfl
          · right; rfl
        · rw [pk_un y]; exact hs j (by omega)
      · have ho1 : o ≠ 0 := by
          intro y
          subst y
          have : tp_ 0 bT = 0 := if_pos rfl
          rw [this] at h
          unfold nx_ at h
          rcases z with x | x <;> rw [x] at h
          · by_cases q : wt = 2
            · rw [if_pos q, if_neg (by decide)] at h; exact absurd h (by simp)
            · by_cases q2 : wt < 2
              · rw [if_neg q, if_pos q2, if_neg (by decide), if_neg (by decide), if_neg (by decide), if_neg (by decide), if_neg (by decide)] at h; exact absurd h (by simp)
              · rw [if_neg q, if_neg q2, if_neg (by decide), if_neg (by decide), if_neg (by decide), if_neg (by decide), if_pos rfl, if_neg (by decide)] at h; exact absurd h (by simp)
          · by_cases q : wt = 2
            · rw [if_pos q, if_neg (by decide)] at h; exact absurd h (by simp)
            · by_cases q2 : wt < 2
              · rw [if_neg q, if_pos q2, if_neg (by decide), if_neg (by decide), if_neg (by decide), if_neg (by decide), if_neg (by decide)] at h; exact absurd h (by simp)
              · rw [if_neg q, if_neg q2, if_neg (by decide), if_neg (by decide), if_neg (by decide), if_pos rfl, if_neg (by decide)] at h; exact absurd h (by simp)
        have p1 : po1_ (T i) o = o - 1 := by unfold po1_; rw [if_neg (by omega), if_pos z]
        have p2 : pb1_ (T i) o bT = bT := by unfold pb1_; rw [if_neg (by omega)]
        rw [p1, p2] at rc K1 K2
        exact ⟨o - 1, by omega, rc (by omega) (fun j hj => hs j (by omega)) K1 K2⟩
      · have p1 : po1_ (T i) o = o := by unfold po1_; rw [if_neg (by omega), if_neg (by omega)]
        have p2 : pb1_ (T i) o bT = bT := by unfold pb1_; rw [if_neg (by omega)]
        rw [p1, p2] at rc K1 K2
        exact rc (by omega) hs K1 K2
    rw [htp3] at bad good
    unfold nx_ at bad good
    by_cases q : wt = 2
    · subst q
      rw [if_pos rfl] at bad good
      exact y_w2 e2 (fun z => good 1 (by decide) (if_pos z)) (fun z => bad (if_neg z))
    · rw [if_neg q] at bad good
      by_cases q2 : wt < 2
      · rw [if_pos q2] at bad good
        refine y_w q2 e2 (fun k hk => ?_) (fun z => bad ?_)
        · rcases hk with z | z | z | z | z
          · exact good k (by omega) (by rw [if_pos z.1, z.2])
          · exact good k (by omega) (by rw [if_neg (by omega), if_pos z.1, z.2])
          · exact good k (by omega) (by rw [if_neg (by omega), if_neg (by omega), if_pos z.1, z.2])
          · exact good k (by omega) (by rw [if_neg (by omega), if_neg (by omega), if_neg (by omega), if_pos z.1, z.2])
          · exact good k (by omega) (by rw [if_neg (by omega), if_neg (by omega), if_neg (by omega), if_neg (by omega), if_pos z.1, z.2])
        · rw [if_neg (by omega), if_neg (by omega), if_neg z.2.2.1, if_neg z.2.2.2.1, if_neg z.2.2.2.2]
      · rw [if_neg q2] at bad good
        by_cases q3 : wt = 4 ∧ T i = 19
        · have g := good 1 (by decide) (by rw [if_neg (by omega), if_pos q3.2, if_pos q3.1])
          rw [q3.2] at g ⊢
          rw [q3.1]
          exact y_w4 g
        · refine y_w3 (by omega) e2 htp2 (fun k hk => ?_) (fun z => bad ?_)
          · rcases hk with z | z | z | z
            · exact good k (by omega) (by rw [if_pos (by have := z.1; unfold bo_ at this; omega), z.2])
            · exact good k (by omega) (by rw [if_neg (by omega), if_neg (by omega), if_pos z.1, z.2])
            · exact good k (by omega) (by rw [if_neg (by omega), if_neg (by omega), if_neg (by omega), if_pos z.1, if_pos (show nI tp = 21 from (tpe 21 (by decide)).mpr z.2.1), z.2.2])
            · exact good k (by omega) (by rw [if_neg (by omega), if_neg (by omega), if_neg (by omega), if_neg (by omega), if_pos z.1, if_pos (show nI tp = 16 from (tpe 16 (by decide)).mpr z.2.1), z.2.2])
          · by_cases c19 : T i = 19
            · rw [if_neg (by omega), if_pos c19, if_neg (by omega)]
            · by_cases c22 : T i = 22
              · rw [if_neg (by omega), if_neg c19, if_neg (by omega), if_pos c22, if_neg (fun w => by have := (tpe 21 (by decide)).mp w; omega)]
              · by_cases c17 : T i = 17
                · rw [if_neg (by omega), if_neg c19, if_neg (by omega), if_neg c22, if_pos c17, if_neg (fun w => by have := (tpe 16 (by decide)).mp w; omega)]
                · rw [if_neg (by omega), if_neg c19, if_neg (by omega), if_neg c22, if_neg c17]
end
end
section
/-! the component's compiler, where an operand is wanted -/
theorem nl_0 : vp_nar .byte (0 : Int32).toInt8.toInt32 = 0 := na_bb (v := 0) (by decide)
theorem nl_16 : vp_nar .byte (16 : Int32).toInt8.toInt32 = 16 := na_bb (v := 16) (by decide)
theorem nl_18 : vp_nar .byte (18 : Int32).toInt8.toInt32 = 18 := na_bb (v := 18) (by decide)
theorem nl_19 : vp_nar .byte (19 : Int32).toInt8.toInt32 = 19 := na_bb (v := 19) (by decide)
theorem nl_21 : vp_nar .byte (21 : Int32).toInt8.toInt32 = 21 := na_bb (v := 21) (by decide)
theorem nl_22 : vp_nar .byte (22 : Int32).toInt8.toInt32 = 22 := na_bb (v := 22) (by decide)
theorem nl_30 : vp_nar .byte (30 : Int32).toInt8.toInt32 = 30 := na_bb (v := 30) (by decide)
theorem nl_31 : vp_nar .byte (31 : Int32).toInt8.toInt32 = 31 := na_bb (v := 31) (by decide)
theorem nl_32 : vp_nar .byte (32 : Int32).toInt8.toInt32 = 32 := na_bb (v := 32) (by decide)
theorem nl_33 : vp_nar .byte (33 : Int32).toInt8.toInt32 = 33 := na_bb (v := 33) (by decide)
theorem nl_34 : vp_nar .byte (34 : Int32).toInt8.toInt32 = 34 := na_bb (v := 34) (by decide)
theorem nl_35 : vp_nar .byte (35 : Int32).toInt8.toInt32 = 35 := na_bb (v := 35) (by decide)
theorem ns_0 : vp_nar .short (0 : Int32).toInt16.toInt32 = 0 := na_ss (v := 0) (by decide)
section
variable {fS fC fA fP fW fE fN fT : Int32} {aL aG aC aT aO aR aA aK aH aB aW : Nat → Int32}
variable {pX : Int32 → SX → Prop} {T : Nat → Nat} {n N i : Nat}
theorem c78_0 (K : pX 0 (fS, fC, fA, fP, fW, fE, fN, fT, aL, aG, aC, aT, aO, aR, aA, aK, aH, aB, aW)) : wX_compile_78 pX (wX_compile_27 pX (N + 1)) 0 fS fC fA fP fW fE fN fT aL aG aC aT aO aR aA aK aH aB aW := br_t rfl (br_t rfl ⟨rfl, K⟩)
theorem c78_1 {a : Nat} (K : wX_compile_27 pX N 1 fS fC (nI (a + 1)) fP fW fE fN fT aL aG aC aT aO aR aA aK aH aB aW) : wX_compile_78 pX (wX_compile_27 pX N) 1 fS fC (nI a) fP fW fE fN fT aL aG aC aT aO aR aA aK aH aB aW := br_f (by decide) (nm_r (nI_1 a) K)
theorem cw_0 (hi : i ≤ n) (hn : n ≤ 40) (hX : aT i = nI (T i))
    (K : wpX_operand (fun r u => match u with | (fS, fC, fA, fP, fW, fE, fN, fT, aL, aG, aC, aT, aO, aR, aA, aK, aH, aB, aW) => wX_compile_78 pX (wX_compile_27 pX N) r fS fC fA fP fW fE fN fT aL aG aC aT aO aR aA aK aH aB aW) (fS, nI n, nI i, fP, fW, fE, 1, fT, aL, aG, aC, aT, aO, aR, aA, aK, aH, aB, aW) (nI (T i))) :
    wX_compile_27 pX (N + 1) 1 fS (nI n) (nI i) fP fW fE 1 fT aL aG aC aT aO aR aA aK aH aB aW := by
  refine br_f (by decide) (pk_lt n i (fun z => by omega) (fun _ => br_f (by decide) ⟨pk_in i 41 (by omega), ?_⟩))
  rw [nI_clamp (by omega), hX]
  exact K
theorem co_0 (hi : i ≤ n) (hn : n ≤ 40) (hX : aT i = nI (T i))
    (K : wpX_operator (fun r u => match u with | (fS, fC, fA, fP, fW, fE, fN, fT, aL, aG, aC, aT, aO, aR, aA, aK, aH, aB, aW) => wX_compile_78 pX (wX_compile_27 pX N) r fS fC fA fP fW fE fN fT aL aG aC aT aO aR aA aK aH aB aW) (fS, nI n, nI i, fP, fW, fE, 0, fT, aL, aG, aC, aT, aO, aR, aA, aK, aH, aB, aW) (nI (T i))) :
    wX_compile_27 pX (N + 1) 1 fS (nI n) (nI i) fP fW fE 0 fT aL aG aC aT aO aR aA aK aH aB aW := by
  refine br_f (by decide) (pk_lt n i (fun z => by omega) (fun _ => br_t rfl ⟨pk_in i 41 (by omega), ?_⟩))
  rw [nI_clamp (by omega), hX]
  exact K
/-- an operand that doesn't fit -/
theorem xo_bad {pr : Int32 → SX → Prop} {t : Nat} (h8 : 8 ≤ t) (h9 : t ≤ 999) (h1 : t ≠ 11) (h2 : t ≠ 16) (h3 : t ≠ 18) (K : pr 0 (fS, fC, fA, fP, fW, fE, fN, 0, aL, aG, aC, aT, aO, aR, aA, aK, aH, aB, aW)) : wpX_operand pr (fS, fC, fA, fP, fW, fE, fN, fT, aL, aG, aC, aT, aO, aR, aA, aK, aH, aB, aW) (nI t) :=
  pk_lt t 8 (fun z => by omega) (fun _ => pk_le t 999 (fun _ => pk_eq t 11 (fun z => absurd z h1) (fun _ => pk_eq t 16 (fun z => absurd z h2) (fun _ => pk_eq t 18 (fun z => absurd z h3) (fun _ => K)))) (fun z => by omega))
theorem xo_74 {pr : Int32 → SX → Prop} {t pc : Nat} (hp : pc < 100) (hi : i < 100) (ht : t < 8 ∨ (1000 ≤ t ∧ t < 2000))
    (K : pr 1 (fS, fC, nI i, nI (pc + 1), fW, fE, 0, fT, aL, aG, aC, aT, upd aO pc (if t < 8 then 31 else 32), upd aR pc (nI (if t < 8 then t else t - 1000)), upd aA pc (nI i), aK, aH, aB, aW)) : wX_operand_74 pr (nI t) fS fC (nI i) (nI pc) fW fE fN fT aL aG aC aT aO aR aA aK aH aB aW := by
  refine pk_le 8 t (fun z => ?_) (fun z => ?_) rfl rfl (by decide) (by omega)
  · rw [show (1000 : Int32) = nI 1000 by decide, pk_sub (by omega)]
    rw [if_neg (by omega), if_neg (by omega)] at K
    refine x_emit hp ?_
    rw [nl_32, na_ss (by omega), na_bb (by omega)]
    exact K
  · rw [if_pos z, if_pos z] at K
    refine x_emit hp ?_
    rw [nl_31, na_ss (by omega), na_bb (by omega)]
    exact K
/-- a register or a number -/
theorem xo_leaf {pr : Int32 → SX → Prop} {t pc st : Nat} (hp : pc < 100) (hi : i < 40) (ht : t < 8 ∨ (1000 ≤ t ∧ t < 2000)) (hst : st < 2) (hX : aT (i + 1) = nI (T (i + 1))) (hT1 : T (i + 1) < 2000) (hno : st = 0 ∨ 8 ≤ t ∨ T (i + 1) ≠ 19)
    (K : pr 1 (fS, fC, nI i, nI (pc + 1), fW, fE, 0, 0, aL, aG, aC, aT, upd aO pc (if t < 8 then 31 else 32), upd aR pc (nI (if t < 8 then t else t - 1000)), upd aA pc (nI i), aK, aH, aB, aW)) : wpX_operand pr (fS, fC, nI i, nI pc, fW, fE, fN, nI st, aL, aG, aC, aT, aO, aR, aA, aK, aH, aB, aW) (nI t) := by
  have g23 : wX_operand_23 pr (nI t) (nI st) fS fC (nI i) (nI pc) fW fE fN 0 aL aG aC aT aO aR aA aK aH aB aW := by
    refine pk_eq st 0 (fun _ => xo_74 hp (by omega) ht K) (fun z => pk_le 8 t (fun _ => xo_74 hp (by omega) ht K) (fun y => ⟨pk_in (i + 1) 41 (by omega) (nI_1 i), ?_⟩) rfl rfl (by decide) (by omega))
    rw [nI_1, nI_clamp (by omega), hX]
    exact pk_eq (T (i + 1)) 19 (fun w => by omega) (fun _ => xo_74 hp (by omega) ht K) rfl rfl (by omega)
  exact pk_lt t 8 (fun _ => g23) (fun z => pk_le t 999 (fun y => by omega) (fun _ => g23) rfl rfl (by omega)) rfl rfl (by omega)
/-- a register that is to be put -/
theorem xo_asg {pr : Int32 → SX → Prop} {t w : Nat} (hw : w < 42) (hi : i < 40) (ht : t < 8) (hX : aT (i + 1) = nI (T (i + 1))) (h19 : T (i + 1) = 19)
    (K : pr 1 (fS, fC, nI (i + 1), fP, nI (w + 1), fE, fN, 1, aL, aG, aC, aT, aO, aR, aA, upd aK w 19, upd aH w (nI t), upd aB w (nI i), aW)) : wpX_operand pr (fS, fC, nI i, fP, nI w, fE, fN, nI 1, aL, aG, aC, aT, aO, aR, aA, aK, aH, aB, aW) (nI t) := by
  refine pk_lt t 8 (fun _ => br_f (by decide) (pk_le 8 t (fun z => by omega) (fun _ => ⟨pk_in (i + 1) 41 (by omega) (nI_1 i), ?_⟩))) (fun z => by omega)
  rw [nI_1, nI_clamp (by omega), hX, h19]
  refine br_t rfl (nm_e (x_hold hw ?_))
  rw [nl_19, na_bb (by omega), na_bb (by omega)]
  exact K
theorem xo_neg {pr : Int32 → SX → Prop} {w : Nat} (hw : w < 42) (hi : i < 40)
    (K : pr 1 (fS, fC, nI i, fP, nI (w + 1), fE, fN, 0, aL, aG, aC, aT, aO, aR, aA, upd aK w 30, upd aH w 0, upd aB w (nI i), aW)) : wpX_operand pr (fS, fC, nI i, fP, nI w, fE, fN, fT, aL, aG, aC, aT, aO, aR, aA, aK, aH, aB, aW) (nI 11) := by
  refine br_f (by decide) (br_t (by decide) (br_t rfl (x_hold hw (br_t rfl ?_))))
  rw [nl_30, nl_0, na_bb (by omega)]
  exact K
theorem xo_par {pr : Int32 → SX → Prop} {w : Nat} (hw : w < 42) (hi : i < 40)
    (K : pr 1 (fS, fC, nI i, fP, nI (w + 1), fE, fN, 1, aL, aG, aC, aT, aO, aR, aA, upd aK w 16, upd aH w 0, upd aB w (nI i), aW)) : wpX_operand pr (fS, fC, nI i, fP, nI w, fE, fN, fT, aL, aG, aC, aT, aO, aR, aA, aK, aH, aB, aW) (nI 16) := by
  refine br_f (by decide) (br_t (by decide) (br_f (by decide) (br_t rfl (x_hold hw (br_f (by decide) ?_)))))
  rw [nl_16, nl_0, na_bb (by omega)]
  exact K
theorem xo_sqr {pr : Int32 → SX → Prop} {w : Nat} (hw : w < 42) (hi : i < 40) (hX : aT (i + 1) = nI (T (i + 1))) (hT1 : T (i + 1) < 2000)
    (K : T (i + 1) = 16 → pr 1 (fS, fC, nI (i + 1), fP, nI (w + 1), fE, fN, 1, aL, aG, aC, aT, aO, aR, aA, upd aK w 18, upd aH w 0, upd aB w (nI i), aW))
    (K0 : T (i + 1) ≠ 16 → pr 0 (fS, fC, nI (i + 1), fP, nI (w + 1), fE, fN, 0, aL, aG, aC, aT, aO, aR, aA, upd aK w 18, upd aH w 0, upd aB w (nI i), aW)) : wpX_operand pr (fS, fC, nI i, fP, nI w, fE, fN, fT, aL, aG, aC, aT, aO, aR, aA, aK, aH, aB, aW) (nI 18) := by
  refine br_f (by decide) (br_t (by decide) (br_f (by decide) (br_f (by decide) (br_t rfl (nm_r (nI_1 i) (x_hold hw ⟨pk_in (i + 1) 41 (by omega), ?_⟩))))))
  rw [nI_clamp (by omega), hX, nl_18, nl_0, na_bb (by omega)]
  exact pk_eq (T (i + 1)) 16 (fun z => br_f (by decide) (K z)) (fun z => K0 z) rfl rfl (by omega)
theorem cw_n (hn : n ≤ 40) (hX : aT n = nI (T n)) (hend : T n = 99) : (∀ (st w pc ml o : Nat) (aO aR aA aK aH aB bT : Nat → Int32), st < 2 → cx_ T aO aR aA aK aH aB w n pc ml → (st = 1 → ml = 0) → ml ≤ 6 → ok_ aK bT w o → w ≤ n → pc + w ≤ 2 * n → (mf_ T 0 n st o bT = none → (∀ (fA fW fN fT : Int32) (pc : Nat) (aO aR aA aK aH aB : Nat → Int32), G_ T aO aR aA 0 0 n 0 pc → pc ≤ 90 → pX 1 (fS, nI n, fA, nI pc, fW, fE, fN, fT, aL, aG, aC, aT, aO, aR, aA, aK, aH, aB, aW))) → (∀ j, mf_ T 0 n st o bT = some j → (∀ (fP fW fN fT : Int32) (aO aR aA aK aH aB : Nat → Int32), pX 0 (fS, nI n, nI j, fP, fW, fE, fN, fT, aL, aG, aC, aT, aO, aR, aA, aK, aH, aB, aW))) → ∀ N, 0 + 3 ≤ N → wX_compile_27 pX N 1 fS (nI n) (nI n) (nI pc) (nI w) fE 1 (nI st) aL aG aC aT aO aR aA aK aH aB aW) := by
  intro st w pc ml o aO aR aA aK aH aB bT hst hc h0 hml hok hw hpc H1 H2 N hN
  obtain ⟨M, rfl⟩ : ∃ M, N = M + 1 + 1 := ⟨N - 2, by omega⟩
  refine cw_0 (Nat.le_refl _) hn hX ?_
  rw [hend]
  exact xo_bad (t := 99) (by decide) (by decide) (by decide) (by decide) (by decide) (c78_0 (H2 n (if_neg (by omega)) _ _ _ _ _ _ _ _ _ _))
theorem nx_w {st t : Nat} {tp : Int32} (hst : st < 2) : nx_ st t tp = (if t < 8 then some (3 + st) else if 999 < t then some 3 else if t = 11 then some 0 else if t = 16 then some 1 else if t = 18 then some 2 else none) := by
  unfold nx_
  rw [if_neg (by omega), if_pos hst]
theorem p1_n {t o : Nat} {bT : Nat → Int32} (h1 : t ≠ 16) (h2 : t ≠ 21) (h3 : t ≠ 17) (h4 : t ≠ 22) : po1_ t o = o ∧ pb1_ t o bT = bT := by
  unfold po1_ pb1_
  rw [if_neg (by omega), if_neg (by omega), if_neg (by omega)]
  exact ⟨rfl, rfl⟩
theorem cw_s {m : Nat} (hn : n ≤ 40) (hX : ∀ j, j ≤ n → aT j = nI (T j)) (hend : T n = 99) (hv : ∀ j, j < n → tv_ (T j)) (him : i + (m + 1) = n)
    (ihW : (∀ (st w pc ml o : Nat) (aO aR aA aK aH aB bT : Nat → Int32), st < 2 → cx_ T aO aR aA aK aH aB w (i + 1) pc ml → (st = 1 → ml = 0) → ml ≤ 6 → ok_ aK bT w o → w ≤ (i + 1) → pc + w ≤ 2 * (i + 1) → (mf_ T m (i + 1) st o bT = none → (∀ (fA fW fN fT : Int32) (pc : Nat) (aO aR aA aK aH aB : Nat → Int32), G_ T aO aR aA 0 0 n 0 pc → pc ≤ 90 → pX 1 (fS, nI n, fA, nI pc, fW, fE, fN, fT, aL, aG, aC, aT, aO, aR, aA, aK, aH, aB, aW))) → (∀ j, mf_ T m (i + 1) st o bT = some j → (∀ (fP fW fN fT : Int32) (aO aR aA aK aH aB : Nat → Int32), pX 0 (fS, nI n, nI j, fP, fW, fE, fN, fT, aL, aG, aC, aT, aO, aR, aA, aK, aH, aB, aW))) → ∀ N, m + 3 ≤ N → wX_compile_27 pX N 1 fS (nI n) (nI (i + 1)) (nI pc) (nI w) fE 1 (nI st) aL aG aC aT aO aR aA aK aH aB aW)) (ihO : (∀ (wt w pc lo p ml o : Nat) (aO aR aA aK aH aB bT : Nat → Int32), (wt = 3 ∨ (wt = 4 ∧ T (i + 1) ≠ 19)) → cx_ T aO aR aA aK aH aB w lo p ml → ml ≤ 6 → G_ T aO aR aA 8 lo (i + 1) p pc → ok_ aK bT w o → w ≤ (i + 1) → pc + w ≤ 2 * (i + 1) → (mf_ T m (i + 1) wt o bT = none → (∀ (fA fW fN fT : Int32) (pc : Nat) (aO aR aA aK aH aB : Nat → Int32), G_ T aO aR aA 0 0 n 0 pc → pc ≤ 90 → pX 1 (fS, nI n, fA, nI pc, fW, fE, fN, fT, aL, aG, aC, aT, aO, aR, aA, aK, aH, aB, aW))) → (∀ j, mf_ T m (i + 1) wt o bT = some j → (∀ (fP fW fN fT : Int32) (aO aR aA aK aH aB : Nat → Int32), pX 0 (fS, nI n, nI j, fP, fW, fE, fN, fT, aL, aG, aC, aT, aO, aR, aA, aK, aH, aB, aW))) → ∀ N, m + 3 ≤ N → wX_compile_27 pX N 1 fS (nI n) (nI (i + 1)) (nI pc) (nI w) fE 0 0 aL aG aC aT aO aR aA aK aH aB aW)) (ih2 : ∀ k, m = k + 1 → (∀ (st w pc ml o : Nat) (aO aR aA aK aH aB bT : Nat → Int32), st < 2 → cx_ T aO aR aA aK aH aB w (i + 2) pc ml → (st = 1 → ml = 0) → ml ≤ 6 → ok_ aK bT w o → w ≤ (i + 2) → pc + w ≤ 2 * (i + 2) → (mf_ T k (i + 2) st o bT = none → (∀ (fA fW fN fT : Int32) (pc : Nat) (aO aR aA aK aH aB : Nat → Int32), G_ T aO aR aA 0 0 n 0 pc → pc ≤ 90 → pX 1 (fS, nI n, fA, nI pc, fW, fE, fN, fT, aL, aG, aC, aT, aO, aR, aA, aK, aH, aB, aW))) → (∀ j, mf_ T k (i + 2) st o bT = some j → (∀ (fP fW fN fT : Int32) (aO aR aA aK aH aB : Nat → Int32), pX 0 (fS, nI n, nI j, fP, fW, fE, fN, fT, aL, aG, aC, aT, aO, aR, aA, aK, aH, aB, aW))) → ∀ N, k + 3 ≤ N → wX_compile_27 pX N 1 fS (nI n) (nI (i + 2)) (nI pc) (nI w) fE 1 (nI st) aL aG aC aT aO aR aA aK aH aB aW)) : (∀ (st w pc ml o : Nat) (aO aR aA aK aH aB bT : Nat → Int32), st < 2 → cx_ T aO aR aA aK aH aB w i pc ml → (st = 1 → ml = 0) → ml ≤ 6 → ok_ aK bT w o → w ≤ i → pc + w ≤ 2 * i → (mf_ T (m + 1) i st o bT = none → (∀ (fA fW fN fT : Int32) (pc : Nat) (aO aR aA aK aH aB : Nat → Int32), G_ T aO aR aA 0 0 n 0 pc → pc ≤ 90 → pX 1 (fS, nI n, fA, nI pc, fW, fE, fN, fT, aL, aG, aC, aT, aO, aR, aA, aK, aH, aB, aW))) → (∀ j, mf_ T (m + 1) i st o bT = some j → (∀ (fP fW fN fT : Int32) (aO aR aA aK aH aB : Nat → Int32), pX 0 (fS, nI n, nI j, fP, fW, fE, fN, fT, aL, aG, aC, aT, aO, aR, aA, aK, aH, aB, aW))) → ∀ N, (m + 1) + 3 ≤ N → wX_compile_27 pX N 1 fS (nI n) (nI i) (nI pc) (nI w) fE 1 (nI st) aL aG aC aT aO aR aA aK aH aB aW) := by
  intro st w pc ml o aO aR aA aK aH aB bT hst hc h0 hml hok hw hpc H1 H2 N hN
  obtain ⟨M, rfl⟩ : ∃ M, N = M + 1 + 1 := ⟨N - 2, by omega⟩
  have ht := hv i (by omega)
  have hXi := hX i (by omega)
  have hX1 := hX (i + 1) (by omega)
  have ht1 : T (i + 1) < 2000 := by
    rcases Nat.eq_or_lt_of_le (show i + 1 ≤ n by omega) with z | z
    · rw [z, hend]; decide
    · have := hv (i + 1) z; unfold tv_ at this; omega
  have hkf : ∀ a b c : Int32, ∀ j, j < w → upd aK w a j = aK j ∧ upd aH w b j = aH j ∧ upd aB w c j = aB j := fun a b c j hj => ⟨pk_un (by omega), pk_un (by omega), pk_un (by omega)⟩
  have hcf : ∀ k, k < pc → aO k = aO k ∧ aR k = aR k ∧ aA k = aA k := fun k _ => ⟨rfl, rfl, rfl⟩
  have hcp : ∀ a b c : Int32, ∀ k, k < pc → upd aO pc a k = aO k ∧ upd aR pc b k = aR k ∧ upd aA pc c k = aA k := fun a b c k hk => ⟨pk_un (by omega), pk_un (by omega), pk_un (by omega)⟩
  have hks : ∀ j, j < w → aK j = aK j ∧ aH j = aH j ∧ aB j = aB j := fun j _ => ⟨rfl, rfl, rfl⟩
  have nx := nx_w (t := T i) (tp := tp_ o bT) hst
  refine cw_0 (by omega) hn hXi ?_
  by_cases t8 : T i < 8
  · rw [if_pos t8] at nx
    obtain ⟨q1, q2⟩ := p1_n (t := T i) (o := o) (bT := bT) (by omega) (by omega) (by omega) (by omega)
    rw [mf_s nx, q1, q2] at H1 H2
    by_cases asg : st = 1 ∧ T (i + 1) = 19
    · obtain ⟨a1, a2⟩ := asg
      subst a1
      have hm : m ≠ 0 := by
        intro z
        subst z
        rw [show i + 1 = n by omega, hend] at a2
        exact absurd a2 (by decide)
      obtain ⟨k, rfl⟩ : ∃ k, m = k + 1 := ⟨m - 1, by omega⟩
      have nx2 : nx_ (3 + 1) (T (i + 1)) (tp_ o bT) = some 1 := by rw [a2]; rfl
      obtain ⟨r1, r2⟩ := p1_n (t := T (i + 1)) (o := o) (bT := bT) (by omega) (by omega) (by omega) (by omega)
      rw [mf_s nx2, r1, r2] at H1 H2
      refine xo_asg (by omega) (by omega) t8 hX1 a2 (c78_1 ?_)
      have ml0 := h0 rfl
      subst ml0
      refine ih2 k rfl 1 (w + 1) pc 0 o aO aR aA _ _ _ bT (by decide) (Or.inr (Or.inr (Or.inl ⟨i, pk_us, pk_us, t8, a2, rfl, rfl, cx_f hc (hkf _ _ _) hcf⟩))) (fun _ => rfl) (by decide) ?_ (by omega) (by omega) H1 H2 (M + 1) (by omega)
      exact Or.inr (Or.inr ⟨by rw [pk_us]; decide, by rw [pk_us]; decide, by rw [pk_us]; decide, ok_f hok (fun j hj => pk_un (by omega)) (fun _ _ => rfl)⟩)
    · refine xo_leaf (T := T) (by omega) (by omega) (Or.inl t8) hst hX1 ht1 (by omega) (c78_1 ?_)
      rw [if_pos t8, if_pos t8]
      refine ihO (3 + st) w (pc + 1) i pc ml o _ _ _ aK aH aB bT (by omega) (cx_f hc hks (hcp _ _ _)) hml ((gc_G T _ _ _).1 i pc t8 pk_us pk_us) hok (by omega) (by omega) H1 H2 (M + 1) (by omega)
  · rw [if_neg t8] at nx
    by_cases t9 : 999 < T i
    · rw [if_pos t9] at nx
      obtain ⟨q1, q2⟩ := p1_n (t := T i) (o := o) (bT := bT) (by omega) (by omega) (by omega) (by omega)
      rw [mf_s nx, q1, q2] at H1 H2
      have h2 : T i < 2000 := by unfold tv_ at ht; omega
      refine xo_leaf (T := T) (by omega) (by omega) (Or.inr ⟨by omega, h2⟩) hst hX1 ht1 (by omega) (c78_1 ?_)
      rw [if_neg t8, if_neg t8]
      exact ihO 3 w (pc + 1) i pc ml o _ _ _ aK aH aB bT (Or.inl rfl) (cx_f hc hks (hcp _ _ _)) hml ((gc_G T _ _ _).2.1 i pc (T i - 1000) (by omega) (by omega) pk_us pk_us) hok (by omega) (by omega) H1 H2 (M + 1) (by omega)
    · rw [if_neg t9] at nx
      by_cases t11 : T i = 11
      · rw [if_pos t11] at nx
        obtain ⟨q1, q2⟩ := p1_n (t := T i) (o := o) (bT := bT) (by omega) (by omega) (by omega) (by omega)
        rw [mf_s nx, q1, q2] at H1 H2
        rw [t11]
        refine xo_neg (by omega) (by omega) (c78_1 ?_)
        refine ihW 0 (w + 1) pc 6 o aO aR aA _ _ _ bT (by decide) (Or.inr (Or.inr (Or.inr (Or.inl ⟨i, ml, pk_us, t11, rfl, rfl, hml, cx_f hc (hkf _ _ _) hcf⟩)))) (fun z => by omega) (by decide) ?_ (by omega) (by omega) H1 H2 (M + 1) (by omega)
        exact Or.inr (Or.inr ⟨by rw [pk_us]; decide, by rw [pk_us]; decide, by rw [pk_us]; decide, ok_f hok (fun j hj => pk_un (by omega)) (fun _ _ => rfl)⟩)
      · rw [if_neg t11] at nx
        by_cases t16 : T i = 16
        · rw [if_pos t16] at nx
          have q1 : po1_ (T i) o = o + 1 := if_pos (Or.inl t16)
          have q2 : pb1_ (T i) o bT = upd bT o (nI (T i)) := if_pos (Or.inl t16)
          rw [mf_s nx, q1, q2] at H1 H2
          rw [t16] at H1 H2 ⊢
          refine xo_par (by omega) (by omega) (c78_1 ?_)
          refine ihW 1 (w + 1) pc 0 (o + 1) aO aR aA _ _ _ (upd bT o (nI 16)) (by decide) (Or.inl ⟨i, ml, pk_us, t16, rfl, rfl, hml, cx_f hc (hkf _ _ _) hcf⟩) (fun _ => rfl) (by decide) ?_ (by omega) (by omega) H1 H2 (M + 1) (by omega)
          exact Or.inl ⟨Or.inl pk_us, o, rfl, pk_us, ok_f hok (fun j hj => pk_un (by omega)) (fun j hj => pk_un (by omega))⟩
        · rw [if_neg t16] at nx
          by_cases t18 : T i = 18
          · rw [if_pos t18] at nx
            obtain ⟨q1, q2⟩ := p1_n (t := T i) (o := o) (bT := bT) (by omega) (by omega) (by omega) (by omega)
            rw [mf_s nx, q1, q2] at H1 H2
            rw [t18]
            refine xo_sqr (T := T) (by omega) (by omega) hX1 ht1 (fun z => c78_1 ?_) (fun z => c78_0 ?_)
            · have hm : m ≠ 0 := by
                intro y
                subst y
                rw [show i + 1 = n by omega, hend] at z
                exact absurd z (by decide)
              obtain ⟨k, rfl⟩ : ∃ k, m = k + 1 := ⟨m - 1, by omega⟩
              have nx2 : nx_ 2 (T (i + 1)) (tp_ o bT) = some 1 := by rw [z]; rfl
              have r1 : po1_ (T (i + 1)) o = o + 1 := if_pos (Or.inl z)
              have r2 : pb1_ (T (i + 1)) o bT = upd bT o (nI (T (i + 1))) := if_pos (Or.inl z)
              rw [mf_s nx2, r1, r2, z] at H1 H2
              refine ih2 k rfl 1 (w + 1) pc 0 (o + 1) aO aR aA _ _ _ (upd bT o (nI 16)) (by decide) (Or.inr (Or.inl ⟨i, ml, pk_us, pk_us, by omega, t18, z, rfl, rfl, hml, cx_f hc (hkf _ _ _) hcf⟩)) (fun _ => rfl) (by decide) ?_ (by omega) (by omega) H1 H2 (M + 1) (by omega)
              exact Or.inl ⟨Or.inr pk_us, o, rfl, pk_us, ok_f hok (fun j hj => pk_un (by omega)) (fun j hj => pk_un (by omega))⟩
            · refine H2 (i + 1) ?_ _ _ _ _ _ _ _ _ _ _
              cases m with
              | zero => exact if_neg (by omega)
              | succ k =>
                refine mf_n ?_
                unfold nx_
                rw [if_pos rfl, if_neg z]
          · rw [if_neg t18] at nx
            exact xo_bad (by omega) (by omega) t11 t16 t18 (c78_0 (H2 i (mf_n nx) _ _ _ _ _ _ _ _ _ _))
end
end
section
/-! the component's compiler, behind an operand -/
theorem cx_m {T : Nat → Nat} {O A B K H Q : Nat → Int32} {w lo p ml t : Nat} (h : cx_ T O A B K H Q (w + 1) lo p ml) (hk : K w = nI t) (ht : t < 100) : (t = 30 → ml = 6) ∧ (bo_ t → ml = rl_ t) ∧ (¬ t = 30 → ¬ bo_ t → ml = 0) := by
  have key : ∀ c : Nat, c < 100 → K w = nI c → t = c := fun c hc e => (nI_eq (by omega) (by omega)).mp (hk.symm.trans e)
  rcases h with ⟨m, ml', a1, a2, a3, a4, a5, a6⟩ | ⟨m, ml', a1, a2, a3, a4, a5, a6, a7, a8, a9⟩ | ⟨m, a1, a2, a3, a4, a5, a6, a7⟩ | ⟨m, ml', a1, a2, a3, a4, a5, a6⟩ | ⟨m, lo', p', ml', a1, a2, a3, a4, a5, a6, a7, a8, a9, a10⟩ | ⟨m, lo', p', q, a1, a2, a3, a4, a5, a6, a7, a8, a9⟩ | ⟨m, c, lo', p', q1, q2, a1, a2, a3, a4, a5, a6, a7, a8, a9, a10, a11, a12, a13⟩
  · have e := key 16 (by decide) a1
    subst e
    exact ⟨fun z => by omega, fun z => by unfold bo_ at z; omega, fun _ _ => a4⟩
  · have e := key 18 (by decide) a1
    subst e
    exact ⟨fun z => by omega, fun z => by unfold bo_ at z; omega, fun _ _ => a7⟩
  · have e := key 19 (by decide) a1
    subst e
    exact ⟨fun z => by omega, fun z => by unfold bo_ at z; omega, fun _ _ => a6⟩
  · have e := key 30 (by decide) a1
    subst e
    exact ⟨fun z => a4, fun z => by unfold bo_ at z; omega, fun z _ => absurd rfl z⟩
  · have hb := bo_ne a1
    have e := key (T m) hb.2.2.2.2.2.1 a2
    subst e
    exact ⟨fun z => by unfold bo_ at a1; omega, fun _ => a6, fun _ z => absurd a1 z⟩
  · have e := key 21 (by decide) a1
    subst e
    exact ⟨fun z => by omega, fun z => by unfold bo_ at z; omega, fun _ _ => a6⟩
  · have e := key 22 (by decide) a1
    subst e
    exact ⟨fun z => by omega, fun z => by unfold bo_ at z; omega, fun _ _ => a7⟩
/-- what is left under an operator of this level -/
theorem cx_l {T : Nat → Nat} {O A B K H Q : Nat → Int32} {w lo p ml L t : Nat} (h : cx_ T O A B K H Q w lo p ml) (htp : ∀ j, w = j + 1 → ∃ t, K j = nI t ∧ t < 100 ∧ le_ t < L) (ht : bo_ t) (hL : (t = 15 ∧ L = 8) ∨ (t ≠ 15 ∧ L = lv_ t)) : ml ≤ lv_ t ∧ ml ≤ 6 := by
  cases w with
  | zero => have := h.2.2; omega
  | succ j =>
    obtain ⟨t', k1, k2, k3⟩ := htp j rfl
    obtain ⟨c1, c2, c3⟩ := cx_m h k1 k2
    have l30 : le_ 30 = 6 := rfl
    have hb := le_bo ht
    have hlv : t ≠ 15 → lv_ t ≤ 5 := by
      intro z
      rcases ht with e | e | e | e | e | e | e <;> subst e <;> first | decide | (exact absurd rfl z)
    have h7 : t = 15 → lv_ t = 7 := fun z => by subst z; rfl
    by_cases z : t' = 30
    · have := c1 z
      subst z
      omega
    · by_cases y : bo_ t'
      · have e := c2 y
        have hb' := le_bo y
        have hr : rl_ t' ≤ lv_ t' + 1 ∧ rl_ t' ≤ 6 := by
          rcases y with e | e | e | e | e | e | e <;> subst e <;> decide
        omega
      · have := c3 z y
        omega
theorem ll_8 {t : Nat} (ht : bo_ t) : ∃ L, ((t = 15 ∧ L = 8) ∨ (t ≠ 15 ∧ L = lv_ t)) ∧ ll_ t = L ∧ 3 ≤ L ∧ L ≤ 8 := by
  rcases ht with e | e | e | e | e | e | e <;> subst e
  · exact ⟨3, Or.inr ⟨by decide, rfl⟩, rfl, by decide, by decide⟩
  · exact ⟨4, Or.inr ⟨by decide, rfl⟩, rfl, by decide, by decide⟩
  · exact ⟨4, Or.inr ⟨by decide, rfl⟩, rfl, by decide, by decide⟩
  · exact ⟨5, Or.inr ⟨by decide, rfl⟩, rfl, by decide, by decide⟩
  · exact ⟨5, Or.inr ⟨by decide, rfl⟩, rfl, by decide, by decide⟩
  · exact ⟨5, Or.inr ⟨by decide, rfl⟩, rfl, by decide, by decide⟩
  · exact ⟨8, Or.inl ⟨rfl, rfl⟩, rfl, by decide, by decide⟩
section
variable {fS fC fA fP fW fE fN fT : Int32} {aL aG aC aT aO aR aA aK aH aB aW : Nat → Int32}
variable {pX pr : Int32 → SX → Prop} {T : Nat → Nat} {n N i w pc lo p ml o : Nat} {bT : Nat → Int32}
theorem xt_bad {t : Nat} (ht : t < 2000) (hl : le_ t = 0) (h1 : t ≠ 21) (h2 : t ≠ 22) (h3 : t ≠ 17) (h4 : t ≠ 99) (K : pr 0 (fS, fC, fA, fP, fW, fE, fN, fT, aL, aG, aC, aT, aO, aR, aA, aK, aH, aB, aW)) : wpX_operator pr (fS, fC, fA, fP, fW, fE, fN, fT, aL, aG, aC, aT, aO, aR, aA, aK, aH, aB, aW) (nI t) := by
  unfold wpX_operator
  refine x_level ht ?_
  rw [hl]
  exact br_t (by decide) (pk_eq t 21 (fun z => absurd z h1) (fun _ => pk_eq t 22 (fun z => absurd z h2) (fun _ => pk_eq t 17 (fun z => absurd z h3) (fun _ => pk_eq t 99 (fun z => absurd z h4) (fun _ => ⟨rfl, K⟩)))))
theorem xt_bin {t : Nat} (ht : bo_ t) (hi : i < 40) (hw : w ≤ 40) (hpc : pc + w < 99) (hc : cx_ T aO aR aA aK aH aB w lo p ml) (hml : ml ≤ 6) (hg : G_ T aO aR aA 8 lo i p pc) (hok : ok_ aK bT w o) (hti : T i = t)
    (K : ∀ (w' pc' : Nat) (aO aR aA aK aH aB : Nat → Int32), w' ≤ w → pc' + w' = pc + w → cx_ T aO aR aA aK aH aB (w' + 1) (i + 1) pc' (rl_ t) → ok_ aK bT (w' + 1) o → pr 1 (fS, fC, nI i, nI pc', nI (w' + 1), fE, 1, fT, aL, aG, aC, aT, aO, aR, aA, aK, aH, aB, aW)) :
    wpX_operator pr (fS, fC, nI i, nI pc, nI w, fE, fN, fT, aL, aG, aC, aT, aO, aR, aA, aK, aH, aB, aW) (nI t) := by
  subst hti
  obtain ⟨L, hL1, hL2, hL3, hL4⟩ := ll_8 ht
  have hb := le_bo ht
  have hn := bo_ne ht
  unfold wpX_operator
  refine x_level (t := T i) (by omega) (br_f (nI_nle (by omega) (by omega)) ?_)
  have g22 : wX_operator_22 pr (nI (T i)) (nI L) fS fC (nI i) (nI pc) (nI w) fE fN fT aL aG aC aT aO aR aA aK aH aB aW := by
    refine x_red (L := L) hL3 hL4 (by omega) (by omega) hc hg (by omega) hL4 hok (fun w' pc' O' A' B' lo1 p1 ml1 l1 b1 b2 b3 b4 b5 b6 b7 b8 => x_hold (by omega) ?_)
    rw [na_bb (by omega), nl_0, na_bb (by omega)]
    have hm := cx_l b3 b8 ht hL1
    have hks : ∀ j, j < w' → upd aK w' (nI (T i)) j = aK j ∧ upd aH w' 0 j = aH j ∧ upd aB w' (nI i) j = aB j := fun j hj => ⟨pk_un (by omega), pk_un (by omega), pk_un (by omega)⟩
    refine K w' pc' O' A' B' _ _ _ b1 b2 (Or.inr (Or.inr (Or.inr (Or.inr (Or.inl ⟨i, lo1, p1, ml1, ht, pk_us, pk_us, by omega, rfl, rfl, hm.1, hm.2, cx_f b3 hks (fun _ _ => ⟨rfl, rfl, rfl⟩), G_w b4 (by omega)⟩))))) ?_
    exact Or.inr (Or.inr ⟨by rw [pk_us]; exact hn.1, by rw [pk_us]; exact hn.2.1, by rw [pk_us]; exact hn.2.2.1, ok_f b7 (fun j hj => pk_un (by omega)) (fun _ _ => rfl)⟩)
  rcases hL1 with z | z
  · rw [z.2] at g22
    exact pk_eq (T i) 15 (fun _ => g22) (fun y => absurd z.1 y) rfl rfl (by omega)
  · rw [z.2] at g22
    rw [hb.1]
    exact pk_eq (T i) 15 (fun y => absurd y z.1) (fun _ => g22) rfl rfl (by omega)
theorem xt_q (hi : i < 40) (hw : w ≤ 40) (hpc : pc + w < 95) (hc : cx_ T aO aR aA aK aH aB w lo p ml) (hml : ml ≤ 6) (hg : G_ T aO aR aA 8 lo i p pc) (hok : ok_ aK bT w o) (hti : T i = 21)
    (K : ∀ (w' pc' : Nat) (aO aR aA aK aH aB : Nat → Int32), w' ≤ w → pc' + w' = pc + w → cx_ T aO aR aA aK aH aB (w' + 1) (i + 1) (pc' + 1) 0 → ok_ aK (upd bT o (nI 21)) (w' + 1) (o + 1) → pr 1 (fS, fC, nI i, nI (pc' + 1), nI (w' + 1), fE, 1, 1, aL, aG, aC, aT, aO, aR, aA, aK, aH, aB, aW)) :
    wpX_operator pr (fS, fC, nI i, nI pc, nI w, fE, fN, fT, aL, aG, aC, aT, aO, aR, aA, aK, aH, aB, aW) (nI 21) := by
  unfold wpX_operator
  refine x_level (t := 21) (by decide) (br_t (by decide) (br_t rfl ?_))
  refine x_red (L := 3) (by decide) (by decide) (by omega) (by omega) hc hg (by omega) (by decide) hok (fun w' pc' O' A' B' lo1 p1 ml1 l1 b1 b2 b3 b4 b5 b6 b7 b8 => x_hold (by omega) (x_emit (by omega) ?_))
  rw [nl_21, nl_34, ns_0, na_bb (v := pc') (by omega), na_bb (v := i) (by omega)]
  have h0 : ml1 = 0 := by
    cases w' with
    | zero => exact b3.2.2
    | succ j =>
      obtain ⟨t', k1, k2, k3⟩ := b8 j rfl
      obtain ⟨c1, c2, c3⟩ := cx_m b3 k1 k2
      refine c3 (fun z => ?_) (fun z => ?_)
      · subst z; exact absurd k3 (by decide)
      · have := le_bo z; omega
  subst h0
  have g := G_lt b4
  have hks : ∀ j, j < w' → upd aK w' 21 j = aK j ∧ upd aH w' (nI pc') j = aH j ∧ upd aB w' (nI i) j = aB j := fun j hj => ⟨pk_un (by omega), pk_un (by omega), pk_un (by omega)⟩
  have hcs : ∀ k, k < pc' → upd O' pc' 34 k = O' k ∧ upd A' pc' 0 k = A' k ∧ upd B' pc' (nI i) k = B' k := fun k hk => ⟨pk_un (by omega), pk_un (by omega), pk_un (by omega)⟩
  refine K w' pc' _ _ _ _ _ _ b1 b2 (Or.inr (Or.inr (Or.inr (Or.inr (Or.inr (Or.inl ⟨i, lo1, p1, pc', pk_us, pk_us, hti, rfl, rfl, rfl, cx_f b3 hks (fun k hk => hcs k (by omega)), G_f (G_w b4 b6) (fun k _ hk => hcs k hk), pk_us⟩)))))) ?_
  exact Or.inr (Or.inl ⟨pk_us, o, rfl, pk_us, ok_f b7 (fun j hj => pk_un (by omega)) (fun j hj => pk_un (by omega))⟩)
/-- the last one that waits for its end -/
theorem ok_t {aK : Nat → Int32} {j : Nat} (h : ok_ aK bT (j + 1) o) : ((aK j = 16 ∨ aK j = 18) → ∃ o', o = o' + 1 ∧ tp_ o bT = 16 ∧ ok_ aK bT j o') ∧ (aK j = 21 → ∃ o', o = o' + 1 ∧ tp_ o bT = 21 ∧ ok_ aK bT j o') := by
  rcases h with ⟨a1, o', a2, a3, a4⟩ | ⟨a1, o', a2, a3, a4⟩ | ⟨a1, a2, a3, a4⟩
  · refine ⟨fun _ => ⟨o', a2, ?_, a4⟩, fun z => ?_⟩
    · subst a2; unfold tp_; rw [if_neg (by omega), Nat.add_sub_cancel]; exact a3
    · rcases a1 with y | y <;> rw [y] at z <;> exact absurd z (by decide)
  · refine ⟨fun z => ?_, fun _ => ⟨o', a2, ?_, a4⟩⟩
    · rcases z with y | y <;> rw [y] at a1 <;> exact absurd a1 (by decide)
    · subst a2; unfold tp_; rw [if_neg (by omega), Nat.add_sub_cancel]; exact a3
  · refine ⟨fun z => ?_, fun z => absurd z a3⟩
    rcases z with y | y
    · exact absurd y a1
    · exact absurd y a2
theorem xt_c (hi : i < 40) (hw : w ≤ 40) (hpc : pc + w < 95) (hc : cx_ T aO aR aA aK aH aB w lo p ml) (hml : ml ≤ 6) (hg : G_ T aO aR aA 8 lo i p pc) (hok : ok_ aK bT w o) (hti : T i = 22)
    (K0 : tp_ o bT ≠ 21 → ∀ (fP fW : Int32) (aO aR aA : Nat → Int32), pr 0 (fS, fC, nI i, fP, fW, fE, fN, fT, aL, aG, aC, aT, aO, aR, aA, aK, aH, aB, aW))
    (K : tp_ o bT = 21 → ∀ (w' pc' : Nat) (aO aR aA aK aH aB : Nat → Int32), w' ≤ w → pc' + w' ≤ pc + w → cx_ T aO aR aA aK aH aB w' (i + 1) (pc' + 1) 0 → ok_ aK bT w' (o - 1) → pr 1 (fS, fC, nI i, nI (pc' + 1), nI w', fE, 1, 1, aL, aG, aC, aT, aO, aR, aA, aK, aH, aB, aW)) :
    wpX_operator pr (fS, fC, nI i, nI pc, nI w, fE, fN, fT, aL, aG, aC, aT, aO, aR, aA, aK, aH, aB, aW) (nI 22) := by
  unfold wpX_operator
  refine x_level (t := 22) (by decide) (br_t (by decide) (br_f (by decide) (br_t rfl ?_)))
  refine x_ee (by omega) (by omega) hc hml hg hok (fun w' pc' O' A' B' lo1 p1 b1 b2 b3 b4 b5 b6 => ?_)
  have t0 : tp_ 0 bT = 0 := if_pos rfl
  cases w' with
  | zero =>
    have e : o = 0 := b5
    subst e
    exact br_t rfl (K0 (by rw [t0]; decide) _ _ _ _ _)
  | succ j =>
    have i1 : vp_in (nI (j + 1) - 1) 42 := pk_in j 42 (by omega) (nI_pred j)
    have rj : (nI (j + 1) - 1).toNatClampNeg = j := by rw [nI_pred, nI_clamp (by omega)]
    have tt := ok_t b5
    refine br_f (nI_ne0 (by omega) (by omega)) ⟨i1, ?_⟩
    rw [rj]
    have h21 : aK j = 21 ∨ ¬ aK j = 21 := Classical.em _
    rcases h21 with z | z
    · obtain ⟨o', e1, e2, e3⟩ := tt.2 z
      rcases b3 with ⟨m, ml', a1, a2, a3, a4, a5, a6⟩ | ⟨m, ml', a1, a2, a3, a4, a5, a6, a7, a8, a9⟩ | ⟨m, a1, a2, a3, a4, a5, a6, a7⟩ | ⟨m, ml', a1, a2, a3, a4, a5, a6⟩ | ⟨m, lo', p', ml', a1, a2, a3, a4, a5, a6, a7, a8, a9, a10⟩ | ⟨m, lo', p', q, a1, a2, a3, a4, a5, a6, a7, a8, a9⟩ | ⟨m, c, lo', p', q1, q2, a1, a2, a3, a4, a5, a6, a7, a8, a9, a10, a11, a12, a13⟩
      · rw [z] at a1; exact absurd a1 (by decide)
      · rw [z] at a1; exact absurd a1 (by decide)
      · rw [z] at a1; exact absurd a1 (by decide)
      · rw [z] at a1; exact absurd a1 (by decide)
      · rw [z] at a2; exact absurd a2.symm (bo_ne a1).2.2.1
      · subst a4
        subst a5
        have g4 := G_lt b4
        have g8 := G_lt a8
        refine br_t z ⟨i1, nm_r (e' := nI q) a2 ⟨i1, nm_r (e' := upd aK j 22) (by rw [show vp_nar .byte 22 = 22 from na_b1 (v := 22) (by decide)]) ⟨i1, nm_r (e' := upd aH j (nI pc')) (by rw [na_bb (by omega)]) (x_emit (by omega) ⟨pk_in q 100 (by omega), nm_r (e' := upd (upd A' pc' 0) q (nI (pc' + 1))) (by rw [nI_clamp (by omega), ns_0, na_ss (by omega)]) ?_⟩)⟩⟩⟩
        rw [nl_35]
        have hks : ∀ k, k < j → upd aK j 22 k = aK k ∧ upd aH j (nI pc') k = aH k ∧ aB k = aB k := fun k hk => ⟨pk_un (by omega), pk_un (by omega), rfl⟩
        have hcs : ∀ k, k < pc' → k ≠ q → upd O' pc' 35 k = O' k ∧ upd (upd A' pc' 0) q (nI (pc' + 1)) k = A' k ∧ upd B' pc' (vp_nar .byte (nI i).toInt8.toInt32) k = B' k := fun k hk hq => ⟨pk_un (by omega), by rw [pk_un hq, pk_un (by omega)], pk_un (by omega)⟩
        refine K e2 (j + 1) pc' _ _ _ _ _ _ b1 b2 (Or.inr (Or.inr (Or.inr (Or.inr (Or.inr (Or.inr ⟨m, i, lo', p', q, pc', pk_us, pk_us, a3, hti, rfl, rfl, rfl, cx_f a7 hks (fun k hk => hcs k (by omega) (by omega)), G_f a8 (fun k _ hk => hcs k (by omega) (by omega)), by rw [pk_un (by omega)]; exact a9, pk_us, G_f b4 (fun k hk hk2 => hcs k hk2 (by omega)), pk_us⟩)))))) ?_
        refine Or.inr (Or.inr ⟨by rw [pk_us]; decide, by rw [pk_us]; decide, by rw [pk_us]; decide, ?_⟩)
        rw [show o - 1 = o' by omega]
        exact ok_f e3 (fun k hk => pk_un (by omega)) (fun _ _ => rfl)
      · rw [z] at a1; exact absurd a1 (by decide)
    · have h16 : aK j = 16 ∨ aK j = 18 := by
        rcases b6 j rfl with y | y | y
        · exact Or.inl y
        · exact Or.inr y
        · exact absurd y z
      obtain ⟨o', e1, e2, e3⟩ := tt.1 h16
      exact br_f z (K0 (by rw [e2]; decide) _ _ _ _ _)
/-- a closing bracket -/
theorem xt_17 (hi : i < 40) (hw : w ≤ 40) (hpc : pc + w < 95) (hc : cx_ T aO aR aA aK aH aB w lo p ml) (hml : ml ≤ 6) (hg : G_ T aO aR aA 8 lo i p pc) (hok : ok_ aK bT w o) (hti : T i = 17)
    (K0 : tp_ o bT ≠ 16 → ∀ (fP fW : Int32) (aO aR aA : Nat → Int32), pr 0 (fS, fC, nI i, fP, fW, fE, fN, fT, aL, aG, aC, aT, aO, aR, aA, aK, aH, aB, aW))
    (K : tp_ o bT = 16 → ∀ (w' pc' lo p ml : Nat) (aO aR aA : Nat → Int32), w' ≤ w → pc' + w' ≤ pc + w → cx_ T aO aR aA aK aH aB w' lo p ml → ml ≤ 6 → G_ T aO aR aA 8 lo (i + 1) p pc' → ok_ aK bT w' (o - 1) → pr 1 (fS, fC, nI i, nI pc', nI w', fE, fN, fT, aL, aG, aC, aT, aO, aR, aA, aK, aH, aB, aW)) :
    wpX_operator pr (fS, fC, nI i, nI pc, nI w, fE, fN, fT, aL, aG, aC, aT, aO, aR, aA, aK, aH, aB, aW) (nI 17) := by
  unfold wpX_operator
  refine x_level (t := 17) (by decide) (br_t (by decide) (br_f (by decide) (br_f (by decide) (br_t rfl ?_))))
  refine x_ee (by omega) (by omega) hc hml hg hok (fun w' pc' O' A' B' lo1 p1 b1 b2 b3 b4 b5 b6 => br_f (by decide) ?_)
  have t0 : tp_ 0 bT = 0 := if_pos rfl
  cases w' with
  | zero =>
    have e : o = 0 := b5
    subst e
    exact br_t rfl ⟨rfl, K0 (by rw [t0]; decide) _ _ _ _ _⟩
  | succ j =>
    have i1 : vp_in (nI (j + 1) - 1) 42 := pk_in j 42 (by omega) (nI_pred j)
    have i2 : vp_in (nI j) 42 := pk_in j 42 (by omega)
    have rj : (nI (j + 1) - 1).toNatClampNeg = j := by rw [nI_pred, nI_clamp (by omega)]
    have rj2 : (nI j).toNatClampNeg = j := nI_clamp (by omega)
    have tt := ok_t b5
    refine br_f (nI_ne0 (by omega) (by omega)) ⟨i1, ?_⟩
    rw [rj]
    have hks : ∀ k, k < j → aK k = aK k ∧ aH k = aH k ∧ aB k = aB k := fun k _ => ⟨rfl, rfl, rfl⟩
    rcases b6 j rfl with z | z | z
    · obtain ⟨o', e1, e2, e3⟩ := tt.1 (Or.inl z)
      refine br_f (by rw [z]; decide) (nm_r (nI_pred j) ⟨i2, ?_⟩)
      rw [rj2]
      refine br_f (by rw [z]; decide) ⟨rfl, ?_⟩
      rcases b3 with ⟨m, ml', a1, a2, a3, a4, a5, a6⟩ | ⟨m, ml', a1, a2, a3, a4, a5, a6, a7, a8, a9⟩ | ⟨m, a1, a2, a3, a4, a5, a6, a7⟩ | ⟨m, ml', a1, a2, a3, a4, a5, a6⟩ | ⟨m, lo', p', ml', a1, a2, a3, a4, a5, a6, a7, a8, a9, a10⟩ | ⟨m, lo', p', q, a1, a2, a3, a4, a5, a6, a7, a8, a9⟩ | ⟨m, c, lo', p', q1, q2, a1, a2, a3, a4, a5, a6, a7, a8, a9, a10, a11, a12, a13⟩
      · subst a3
        exact K e2 j pc' m p1 ml' O' A' B' (by omega) (by omega) a6 a5 ((gc_G T _ _ _).2.2.1 m i p1 pc' a2 b4 hti) (by rw [show o - 1 = o' by omega]; exact e3)
      · rw [z] at a1; exact absurd a1 (by decide)
      · rw [z] at a1; exact absurd a1 (by decide)
      · rw [z] at a1; exact absurd a1 (by decide)
      · rw [z] at a2; exact absurd a2.symm (bo_ne a1).1
      · rw [z] at a1; exact absurd a1 (by decide)
      · rw [z] at a1; exact absurd a1 (by decide)
    · obtain ⟨o', e1, e2, e3⟩ := tt.1 (Or.inr z)
      refine br_f (by rw [z]; decide) (nm_r (nI_pred j) ⟨i2, ?_⟩)
      rw [rj2]
      refine br_t z ⟨i2, x_emit (by omega) ⟨rfl, ?_⟩⟩
      rw [nl_18, ns_0]
      have g4 := G_lt b4
      rcases b3 with ⟨m, ml', a1, a2, a3, a4, a5, a6⟩ | ⟨m, ml', a1, a2, a3, a4, a5, a6, a7, a8, a9⟩ | ⟨m, a1, a2, a3, a4, a5, a6, a7⟩ | ⟨m, ml', a1, a2, a3, a4, a5, a6⟩ | ⟨m, lo', p', ml', a1, a2, a3, a4, a5, a6, a7, a8, a9, a10⟩ | ⟨m, lo', p', q, a1, a2, a3, a4, a5, a6, a7, a8, a9⟩ | ⟨m, c, lo', p', q1, q2, a1, a2, a3, a4, a5, a6, a7, a8, a9, a10, a11, a12, a13⟩
      · rw [z] at a1; exact absurd a1 (by decide)
      · subst a6
        rw [a2, na_bb (by omega)]
        have hcs : ∀ k, k < pc' → upd O' pc' 18 k = O' k ∧ upd A' pc' 0 k = A' k ∧ upd B' pc' (nI m) k = B' k := fun k hk => ⟨pk_un (by omega), pk_un (by omega), pk_un (by omega)⟩
        exact K e2 j (pc' + 1) m p1 ml' _ _ _ (by omega) (by omega) (cx_f a9 hks (fun k hk => hcs k (by omega))) a8 ((gc_G T _ _ _).2.2.2.1 m i p1 pc' a4 a5 (G_f b4 (fun k _ hk => hcs k hk)) hti pk_us pk_us) (by rw [show o - 1 = o' by omega]; exact e3)
      · rw [z] at a1; exact absurd a1 (by decide)
      · rw [z] at a1; exact absurd a1 (by decide)
      · rw [z] at a2; exact absurd a2.symm (bo_ne a1).2.1
      · rw [z] at a1; exact absurd a1 (by decide)
      · rw [z] at a1; exact absurd a1 (by decide)
    · obtain ⟨o', e1, e2, e3⟩ := tt.2 z
      exact br_t z ⟨rfl, K0 (by rw [e2]; decide) _ _ _ _ _⟩
end
end
section
/-! the whole line compiled, against the check as a function -/
section
variable {fS fC fA fP fW fE fN fT : Int32} {aL aG aC aT aO aR aA aK aH aB aW : Nat → Int32}
variable {pX : Int32 → SX → Prop} {T : Nat → Nat} {n i : Nat}
theorem nx_o {wt t : Nat} {tp : Int32} (hw : wt = 3 ∨ (wt = 4 ∧ t ≠ 19)) : nx_ wt t tp = (if (9 < t ∧ t < 16) ∨ t = 20 then some 0 else if t = 19 then none else if t = 21 then some 1 else if t = 22 then (if tp = 21 then some 1 else none) else if t = 17 then (if tp = 16 then some 3 else none) else none) := by
  unfold nx_
  rw [if_neg (by omega), if_neg (by omega)]
  by_cases z : (9 < t ∧ t < 16) ∨ t = 20
  · rw [if_pos z, if_pos z]
  · rw [if_neg z, if_neg z]
    by_cases y : t = 19
    · rw [if_pos y, if_pos y, if_neg (by omega)]
    · rw [if_neg y, if_neg y]
theorem le_0 {t : Nat} (h : ¬ ((9 < t ∧ t < 16) ∨ t = 20)) (h2 : t ≠ 30) : le_ t = 0 := by
  unfold le_
  repeat' split
  all_goals omega
theorem co_n (hn : n ≤ 40) (hX : aT n = nI (T n)) (hend : T n = 99) : (∀ (wt w pc lo p ml o : Nat) (aO aR aA aK aH aB bT : Nat → Int32), (wt = 3 ∨ (wt = 4 ∧ T n ≠ 19)) → cx_ T aO aR aA aK aH aB w lo p ml → ml ≤ 6 → G_ T aO aR aA 8 lo n p pc → ok_ aK bT w o → w ≤ n → pc + w ≤ 2 * n → (mf_ T 0 n wt o bT = none → (∀ (fA fW fN fT : Int32) (pc : Nat) (aO aR aA aK aH aB : Nat → Int32), G_ T aO aR aA 0 0 n 0 pc → pc ≤ 90 → pX 1 (fS, nI n, fA, nI pc, fW, fE, fN, fT, aL, aG, aC, aT, aO, aR, aA, aK, aH, aB, aW))) → (∀ j, mf_ T 0 n wt o bT = some j → (∀ (fP fW fN fT : Int32) (aO aR aA aK aH aB : Nat → Int32), pX 0 (fS, nI n, nI j, fP, fW, fE, fN, fT, aL, aG, aC, aT, aO, aR, aA, aK, aH, aB, aW))) → ∀ N, 0 + 3 ≤ N → wX_compile_27 pX N 1 fS (nI n) (nI n) (nI pc) (nI w) fE 0 0 aL aG aC aT aO aR aA aK aH aB aW) := by
  intro wt w pc lo p ml o aO aR aA aK aH aB bT hwt hc hml hg hok hw hpc H1 H2 N hN
  obtain ⟨M, rfl⟩ : ∃ M, N = M + 1 + 1 := ⟨N - 2, by omega⟩
  refine co_0 (Nat.le_refl _) hn hX ?_
  rw [hend]
  unfold wpX_operator
  refine x_level (t := 99) (by decide) (br_t (by decide) (br_f (by decide) (br_f (by decide) (br_f (by decide) (br_t rfl ?_)))))
  refine x_ee (by omega) (by omega) hc hml hg hok (fun w' pc' O' A' B' lo1 p1 b1 b2 b3 b4 b5 b6 => br_t rfl ?_)
  cases w' with
  | zero =>
    have e : o = 0 := b5
    have e2 : lo1 = 0 := b3.1
    have e3 : p1 = 0 := b3.2.1
    subst e
    subst e2
    subst e3
    refine br_t rfl ⟨rfl, c78_1 (br_f (by decide) (pk_lt n (n + 1) (fun _ => ⟨rfl, ?_⟩) (fun z => by omega)))⟩
    exact H1 (if_pos ⟨by omega, rfl⟩) _ _ _ _ pc' _ _ _ _ _ _ b4 (by omega)
  | succ j =>
    have ho : o ≠ 0 := by
      have tt := ok_t b5
      rcases b6 j rfl with z | z | z
      · obtain ⟨o', e, _⟩ := tt.1 (Or.inl z); omega
      · obtain ⟨o', e, _⟩ := tt.1 (Or.inr z); omega
      · obtain ⟨o', e, _⟩ := tt.2 z; omega
    refine br_f (nI_ne0 (by omega) (by omega)) ⟨rfl, c78_0 (H2 n (if_neg (by omega)) _ _ _ _ _ _ _ _ _ _)⟩
theorem co_s {m : Nat} (hn : n ≤ 40) (hX : ∀ j, j ≤ n → aT j = nI (T j)) (hv : ∀ j, j < n → tv_ (T j)) (him : i + (m + 1) = n)
    (ihW : (∀ (st w pc ml o : Nat) (aO aR aA aK aH aB bT : Nat → Int32), st < 2 → cx_ T aO aR aA aK aH aB w (i + 1) pc ml → (st = 1 → ml = 0) → ml ≤ 6 → ok_ aK bT w o → w ≤ (i + 1) → pc + w ≤ 2 * (i + 1) → (mf_ T m (i + 1) st o bT = none → (∀ (fA fW fN fT : Int32) (pc : Nat) (aO aR aA aK aH aB : Nat → Int32), G_ T aO aR aA 0 0 n 0 pc → pc ≤ 90 → pX 1 (fS, nI n, fA, nI pc, fW, fE, fN, fT, aL, aG, aC, aT, aO, aR, aA, aK, aH, aB, aW))) → (∀ j, mf_ T m (i + 1) st o bT = some j → (∀ (fP fW fN fT : Int32) (aO aR aA aK aH aB : Nat → Int32), pX 0 (fS, nI n, nI j, fP, fW, fE, fN, fT, aL, aG, aC, aT, aO, aR, aA, aK, aH, aB, aW))) → ∀ N, m + 3 ≤ N → wX_compile_27 pX N 1 fS (nI n) (nI (i + 1)) (nI pc) (nI w) fE 1 (nI st) aL aG aC aT aO aR aA aK aH aB aW)) (ihO : (∀ (wt w pc lo p ml o : Nat) (aO aR aA aK aH aB bT : Nat → Int32), (wt = 3 ∨ (wt = 4 ∧ T (i + 1) ≠ 19)) → cx_ T aO aR aA aK aH aB w lo p ml → ml ≤ 6 → G_ T aO aR aA 8 lo (i + 1) p pc → ok_ aK bT w o → w ≤ (i + 1) → pc + w ≤ 2 * (i + 1) → (mf_ T m (i + 1) wt o bT = none → (∀ (fA fW fN fT : Int32) (pc : Nat) (aO aR aA aK aH aB : Nat → Int32), G_ T aO aR aA 0 0 n 0 pc → pc ≤ 90 → pX 1 (fS, nI n, fA, nI pc, fW, fE, fN, fT, aL, aG, aC, aT, aO, aR, aA, aK, aH, aB, aW))) → (∀ j, mf_ T m (i + 1) wt o bT = some j → (∀ (fP fW fN fT : Int32) (aO aR aA aK aH aB : Nat → Int32), pX 0 (fS, nI n, nI j, fP, fW, fE, fN, fT, aL, aG, aC, aT, aO, aR, aA, aK, aH, aB, aW))) → ∀ N, m + 3 ≤ N → wX_compile_27 pX N 1 fS (nI n) (nI (i + 1)) (nI pc) (nI w) fE 0 0 aL aG aC aT aO aR aA aK aH aB aW)) : (∀ (wt w pc lo p ml o : Nat) (aO aR aA aK aH aB bT : Nat → Int32), (wt = 3 ∨ (wt = 4 ∧ T i ≠ 19)) → cx_ T aO aR aA aK aH aB w lo p ml → ml ≤ 6 → G_ T aO aR aA 8 lo i p pc → ok_ aK bT w o → w ≤ i → pc + w ≤ 2 * i → (mf_ T (m + 1) i wt o bT = none → (∀ (fA fW fN fT : Int32) (pc : Nat) (aO aR aA aK aH aB : Nat → Int32), G_ T aO aR aA 0 0 n 0 pc → pc ≤ 90 → pX 1 (fS, nI n, fA, nI pc, fW, fE, fN, fT, aL, aG, aC, aT, aO, aR, aA, aK, aH, aB, aW))) → (∀ j, mf_ T (m + 1) i wt o bT = some j → (∀ (fP fW fN fT : Int32) (aO aR aA aK aH aB : Nat → Int32), pX 0 (fS, nI n, nI j, fP, fW, fE, fN, fT, aL, aG, aC, aT, aO, aR, aA, aK, aH, aB, aW))) → ∀ N, (m + 1) + 3 ≤ N → wX_compile_27 pX N 1 fS (nI n) (nI i) (nI pc) (nI w) fE 0 0 aL aG aC aT aO aR aA aK aH aB aW) := by
  intro wt w pc lo p ml o aO aR aA aK aH aB bT hwt hc hml hg hok hw hpc H1 H2 N hN
  obtain ⟨M, rfl⟩ : ∃ M, N = M + 1 + 1 := ⟨N - 2, by omega⟩
  have ht := hv i (by omega)
  have h2 : T i < 2000 := by unfold tv_ at ht; omega
  have nx := nx_o (tp := tp_ o bT) hwt
  refine co_0 (by omega) hn (hX i (by omega)) ?_
  by_cases hb : (9 < T i ∧ T i < 16) ∨ T i = 20
  · rw [if_pos hb] at nx
    have hbo : bo_ (T i) := by unfold bo_; omega
    obtain ⟨q1, q2⟩ := p1_n (t := T i) (o := o) (bT := bT) (by omega) (by omega) (by omega) (by omega)
    rw [mf_s nx, q1, q2] at H1 H2
    have hr := (bo_ne hbo).2.2.2.2.2.2
    refine xt_bin hbo (by omega) (by omega) (by omega) hc hml hg hok rfl (fun w' pc' O' A' B' K' H' Q' b1 b2 b3 b4 => c78_1 ?_)
    exact ihW 0 (w' + 1) pc' (rl_ (T i)) o O' A' B' K' H' Q' bT (by decide) b3 (fun z => by omega) hr.2 b4 (by omega) (by omega) H1 H2 (M + 1) (by omega)
  · rw [if_neg hb] at nx
    have hl := le_0 hb (by unfold tv_ at ht; omega)
    by_cases t19 : T i = 19
    · rw [if_pos t19] at nx
      exact xt_bad h2 hl (by omega) (by omega) (by omega) (by omega) (c78_0 (H2 i (mf_n nx) _ _ _ _ _ _ _ _ _ _))
    · rw [if_neg t19] at nx
      by_cases t21 : T i = 21
      · rw [if_pos t21] at nx
        have q1 : po1_ (T i) o = o + 1 := if_pos (Or.inr t21)
        have q2 : pb1_ (T i) o bT = upd bT o (nI (T i)) := if_pos (Or.inr t21)
        rw [mf_s nx, q1, q2, t21] at H1 H2
        rw [t21]
        refine xt_q (by omega) (by omega) (by omega) hc hml hg hok t21 (fun w' pc' O' A' B' K' H' Q' b1 b2 b3 b4 => c78_1 ?_)
        exact ihW 1 (w' + 1) (pc' + 1) 0 (o + 1) O' A' B' K' H' Q' (upd bT o (nI 21)) (by decide) b3 (fun _ => rfl) (by decide) b4 (by omega) (by omega) H1 H2 (M + 1) (by omega)
      · rw [if_neg t21] at nx
        by_cases t22 : T i = 22
        · rw [if_pos t22] at nx
          have q1 : po1_ (T i) o = o - 1 := by unfold po1_; rw [if_neg (by omega), if_pos (Or.inr t22)]
          have q2 : pb1_ (T i) o bT = bT := by unfold pb1_; rw [if_neg (by omega)]
          rw [t22]
          refine xt_c (by omega) (by omega) (by omega) hc hml hg hok t22 (fun z P1 W1 O' A' B' => c78_0 ?_) (fun z w' pc' O' A' B' K' H' Q' b1 b2 b3 b4 => c78_1 ?_)
          · rw [if_neg z] at nx
            exact H2 i (mf_n nx) _ _ _ _ _ _ _ _ _ _
          · rw [if_pos z] at nx
            rw [mf_s nx, q1, q2] at H1 H2
            exact ihW 1 w' (pc' + 1) 0 (o - 1) O' A' B' K' H' Q' bT (by decide) b3 (fun _ => rfl) (by decide) b4 (by omega) (by omega) H1 H2 (M + 1) (by omega)
        · rw [if_neg t22] at nx
          by_cases t17 : T i = 17
          · rw [if_pos t17] at nx
            have q1 : po1_ (T i) o = o - 1 := by unfold po1_; rw [if_neg (by omega), if_pos (Or.inl t17)]
            have q2 : pb1_ (T i) o bT = bT := by unfold pb1_; rw [if_neg (by omega)]
            rw [t17]
            refine xt_17 (by omega) (by omega) (by omega) hc hml hg hok t17 (fun z P1 W1 O' A' B' => c78_0 ?_) (fun z w' pc' lo1 p1 ml1 O' A' B' b1 b2 b3 b4 b5 b6 => c78_1 ?_)
            · rw [if_neg z] at nx
              exact H2 i (mf_n nx) _ _ _ _ _ _ _ _ _ _
            · rw [if_pos z] at nx
              rw [mf_s nx, q1, q2] at H1 H2
              exact ihO 3 w' pc' lo1 p1 ml1 (o - 1) O' A' B' aK aH aB bT (Or.inl rfl) b3 b4 b5 b6 (by omega) (by omega) H1 H2 (M + 1) (by omega)
          · rw [if_neg t17] at nx
            exact xt_bad h2 hl t21 t22 t17 (by unfold tv_ at ht; omega) (c78_0 (H2 i (mf_n nx) _ _ _ _ _ _ _ _ _ _))
theorem cp_all (hn : n ≤ 40) (hX : ∀ j, j ≤ n → aT j = nI (T j)) (hend : T n = 99) (hv : ∀ j, j < n → tv_ (T j)) : ∀ (b m i : Nat), m ≤ b → i + m = n → (∀ (st w pc ml o : Nat) (aO aR aA aK aH aB bT : Nat → Int32), st < 2 → cx_ T aO aR aA aK aH aB w i pc ml → (st = 1 → ml = 0) → ml ≤ 6 → ok_ aK bT w o → w ≤ i → pc + w ≤ 2 * i → (mf_ T m i st o bT = none → (∀ (fA fW fN fT : Int32) (pc : Nat) (aO aR aA aK aH aB : Nat → Int32), G_ T aO aR aA 0 0 n 0 pc → pc ≤ 90 → pX 1 (fS, nI n, fA, nI pc, fW, fE, fN, fT, aL, aG, aC, aT, aO, aR, aA, aK, aH, aB, aW))) → (∀ j, mf_ T m i st o bT = some j → (∀ (fP fW fN fT : Int32) (aO aR aA aK aH aB : Nat → Int32), pX 0 (fS, nI n, nI j, fP, fW, fE, fN, fT, aL, aG, aC, aT, aO, aR, aA, aK, aH, aB, aW))) → ∀ N, m + 3 ≤ N → wX_compile_27 pX N 1 fS (nI n) (nI i) (nI pc) (nI w) fE 1 (nI st) aL aG aC aT aO aR aA aK aH aB aW) ∧ (∀ (wt w pc lo p ml o : Nat) (aO aR aA aK aH aB bT : Nat → Int32), (wt = 3 ∨ (wt = 4 ∧ T i ≠ 19)) → cx_ T aO aR aA aK aH aB w lo p ml → ml ≤ 6 → G_ T aO aR aA 8 lo i p pc → ok_ aK bT w o → w ≤ i → pc + w ≤ 2 * i → (mf_ T m i wt o bT = none → (∀ (fA fW fN fT : Int32) (pc : Nat) (aO aR aA aK aH aB : Nat → Int32), G_ T aO aR aA 0 0 n 0 pc → pc ≤ 90 → pX 1 (fS, nI n, fA, nI pc, fW, fE, fN, fT, aL, aG, aC, aT, aO, aR, aA, aK, aH, aB, aW))) → (∀ j, mf_ T m i wt o bT = some j → (∀ (fP fW fN fT : Int32) (aO aR aA aK aH aB : Nat → Int32), pX 0 (fS, nI n, nI j, fP, fW, fE, fN, fT, aL, aG, aC, aT, aO, aR, aA, aK, aH, aB, aW))) → ∀ N, m + 3 ≤ N → wX_compile_27 pX N 1 fS (nI n) (nI i) (nI pc) (nI w) fE 0 0 aL aG aC aT aO aR aA aK aH aB aW)
  | b, 0, i, _, him => by
    have e : i = n := by omega
    subst e
    exact ⟨cw_n hn (hX i (Nat.le_refl _)) hend, co_n hn (hX i (Nat.le_refl _)) hend⟩
  | 0, m + 1, i, hb, him => by omega
  | b + 1, m + 1, i, hb, him => by
    have ih := cp_all hn hX hend hv b m (i + 1) (by omega) (by omega)
    exact ⟨cw_s hn hX hend hv him ih.1 ih.2 (fun k hk => (cp_all hn hX hend hv b k (i + 2) (by omega) (by omega)).1), co_s hn hX hv him ih.1 ih.2⟩
/-- compile -/
theorem x_comp (hn : n ≤ 40) (hX : ∀ j, j ≤ n → aT j = nI (T j)) (hend : T n = 99) (hv : ∀ j, j < n → tv_ (T j)) (bT : Nat → Int32)
    (H1 : mf_ T n 0 1 0 bT = none → ∀ (fA fW fN fT : Int32) (pc : Nat) (aO aR aA aK aH aB : Nat → Int32), G_ T aO aR aA 0 0 n 0 pc → pc ≤ 90 → pX 1 (fS, nI n, fA, nI pc, fW, fE, fN, fT, aL, aG, aC, aT, aO, aR, aA, aK, aH, aB, aW))
    (H2 : ∀ j, mf_ T n 0 1 0 bT = some j → ∀ (fP fW fN fT : Int32) (aO aR aA aK aH aB : Nat → Int32), pX 0 (fS, nI n, nI j, fP, fW, fE, fN, fT, aL, aG, aC, aT, aO, aR, aA, aK, aH, aB, aW)) :
    wpX_compile pX (fS, nI n, fA, fP, fW, fE, fN, fT, aL, aG, aC, aT, aO, aR, aA, aK, aH, aB, aW) :=
  ⟨n + 3, (cp_all hn hX hend hv n n 0 (Nat.le_refl _) (by omega)).1 1 0 0 0 0 aO aR aA aK aH aB bT (by decide) ⟨rfl, rfl, rfl⟩ (fun _ => rfl) (by decide) rfl (by decide) (by decide) H1 H2 (n + 3) (Nat.le_refl _)⟩
end
end
section
/-! run -/
section
variable {gP gT gW gJ gV gE : Int32} {bD bG bP bW bL bT bO bH : Nat → Int32}
theorem y_fin {post : Int32 → SY → Prop} {to x sc : Nat} {S : RR_} {e : Nat → Nat} (hx : x < 1000) (hS : wf_ S) (ht : to < 8)
    (K : ∀ e', post (S.2.1 8) (nI sc, gT, gW, nI 0, nI 1, 0, dn_A (rg_d (dp_ S 8 to).1), (dp_ S 8 to).2.1, dn_A (dp_ S 8 to).2.2, dn_A e', bL, bT, bO, bH)) : wY_run_63 post (nI to) 1 (nI x) (nI sc) gT gW (nI 0) (nI 1) 0 (dn_A (rg_d S.1)) S.2.1 (dn_A S.2.2) (dn_A e) bL bT bO bH := by
  refine pk_le 1000 x (fun z => by omega) (fun _ => pk_le 0 0 (fun _ => br_t rfl ?_) (fun z => by omega))
  exact y_same hS 8 to (by decide) (by omega) K
theorem y_err {post : Int32 → SY → Prop} {x er : Int32} {to : Nat} (he : ¬ er = 0) (K : post er (gP, gT, gW, gJ, gV, er, bD, bG, bP, bW, bL, bT, bO, bH)) : wY_run_63 post (nI to) 1 x gP gT gW gJ gV er bD bG bP bW bL bT bO bH := by
  have g : wY_run_94 post (nI to) gP gT gW gJ gV er bD bG bP bW bL bT bO bH := br_f he K
  exact br_c (fun _ => g) (fun _ => br_c (fun _ => g) (fun _ => br_f he g))
end
theorem mf_le {T : Nat → Nat} {n : Nat} : ∀ {m i wt o : Nat} {bT : Nat → Int32} {j : Nat}, i + m ≤ n → mf_ T m i wt o bT = some j → j ≤ n
  | 0, i, wt, o, bT, j, hi, h => by
    have h2 : (if 2 < wt ∧ o = 0 then none else some i) = some j := h
    by_cases z : 2 < wt ∧ o = 0
    · rw [if_pos z] at h2; cases h2
    · rw [if_neg z] at h2; cases h2; omega
  | m + 1, i, wt, o, bT, j, hi, h => by
    cases e : nx_ wt (T i) (tp_ o bT) with
    | none => rw [mf_n e] at h; cases h; omega
    | some k => rw [mf_s e] at h; exact mf_le (by omega) h
theorem rf_0 {R S : RR_} {d d' tk : Nat → Nat} {sc n : Nat} {aT bL aT' : Nat → Int32} (h : rf_ R S d tk sc n aT bL) {R' S' : RR_} (hd : bd_ d') (hR : wf_ R') (hS : wf_ S') (ha : ag_ R' S') : rf_ R' S' d' tk sc 0 aT' bL :=
  ⟨hd, hR, hS, ha, h.2.2.2.2.1, by decide, fun i hi => absurd hi (Nat.not_lt_zero i)⟩
theorem i_vc_run {k : Nat} {u : SX} {v : SY} (I : i_Rel k u v) (hk : k + 4 ≤ 2048) (v1 : Int32) : wpX_run (fun r u' => wpY_run (fun r' v' => r' = r ∧ i_Rel (k + 4) u' v') v v1) u v1 := by
  refine rl_el I (P := fun u v => wpX_run (fun r u' => wpY_run (fun r' v' => r' = r ∧ i_Rel (k + 4) u' v') v v1) u v1) ?_
  intro fA fP fW fE fN fT gJ gV gE aT aO aR aA aK aH aB bL bT bO bH R S d e tk sc n h
  unfold wpX_run wpY_run
  rcases is_c v1 with ⟨a, ha, rfl⟩ | ⟨x1, y1⟩
  · have hn := h.2.2.2.2.2.1
    have hsc := h.2.2.2.2.1
    have htk := h.2.2.2.2.2.2
    have hT : tn_ (dn_u tk n 99) n bL := ⟨hn, fun i hi => by
      rw [dn_un (by omega)]
      have := htk i hi
      exact ⟨this.2.1, by have h3 := this.2.2; unfold tv_ at h3; omega⟩⟩
    refine x_isg ha (br_f (by decide) ⟨pk_in n 41 (by omega), nm_r (e' := upd aT n 99) (by rw [nI_clamp (by omega), show vp_nar .short 99 = 99 from na_s1 (v := 99) (by decide)]) ?_⟩)
    have hX : ∀ j, j ≤ n → upd aT n 99 j = nI (dn_u tk n 99 j) := fun j hj => by
      by_cases z : j = n
      · subst z; rw [pk_us, dn_us]; rfl
      · rw [pk_un z, dn_un z]; exact (htk j (by omega)).1
    have hv : ∀ j, j < n → tv_ (dn_u tk n 99 j) := fun j hj => by rw [dn_un (by omega)]; exact (htk j hj).2.2
    refine x_comp (T := dn_u tk n 99) hn hX dn_us hv bT (fun hm fA fW fN fT pc aO aR aA aK aH aB hg hpc => ?_) (fun j hm fP fW fN fT aO aR aA aK aH aB => ?_)
    · refine br_f (by decide) (br_f (by decide) ?_)
      obtain ⟨o, R1, w1, g1, ⟨K, x1⟩, ⟨L, l1, y1⟩⟩ := (ex_G (fC := 0) (fA := fA) (fP := nI pc) (fW := fW) (fE := -1) (fN := fN) (fT := fT) (aT := upd aT n 99) (aO := aO) (aR := aR) (aA := aA) (aK := aK) (aH := aH) (aB := aB) (gT := 0) (gW := -1) (to := a) (pe := pc) (N := n) hT hsc (by omega) hg).2 (Nat.le_refl _) (Nat.le_refl _) R 0 h.2.1 (by omega)
      have yrun : ∀ q : Int32 → SY → Prop, (o = none → ∀ e' S' bT' bO' bH', wf_ S' → ag_ R1 S' → q (S'.2.1 8) (nI sc, 0, -1, nI 0, nI 1, 0, dn_A (rg_d (dp_ S' 8 a).1), (dp_ S' 8 a).2.1, dn_A (dp_ S' 8 a).2.2, dn_A e', bL, bT', bO', bH')) → (∀ (er : Int32) (ps : Nat), o = some (er, ps) → ∀ e' S' (j' v' : Int32) bT' bO' bH', wf_ S' → ag_ R1 S' → q er (nI sc, 0, nI ps, j', v', er, dn_A (rg_d S'.1), S'.2.1, dn_A S'.2.2, dn_A e', bL, bT', bO', bH')) → wpY_run q (nI sc, nI n, fE, gJ, gV, gE, dn_A (rg_d S.1), S.2.1, dn_A S.2.2, dn_A e, bL, bT, bO, bH) (nI a) := by
        intro q q1 q2
        unfold wpY_run
        refine y_outg ha (br_t rfl ⟨n + 1, y_mfl hT _ n 0 1 0 bT (by omega) (by decide) (by decide) (fun j hj => by omega) (fun _ bT' => br_t (by decide) ?_) (fun j hj => by rw [hm] at hj; cases hj)⟩)
        refine y_later (J := 0) (by decide) ⟨1 + L, ?_⟩
        refine y1 q 0 _ _ _ e 0 1 S h.2.2.1 h.2.2.2.1 (by omega) (by omega) je_u (fun z e' S' bT2 bO2 bH2 wS' aS' _ => y_fin (by omega) wS' ha (fun e2 => q1 z e2 S' bT2 bO2 bH2 wS' aS')) (fun er ps z e' S' x' j' v' bT2 bO2 bH2 wS' aS' => y_err (fun y => ?_) (q2 er ps z e' S' j' v' bT2 bO2 bH2 wS' aS'))
        have := g1 er ps z
        rw [y] at this
        exact this (by decide)
      refine ⟨1 + K, x1 _ 1 d h.1 (fun z d' hd' => br_t (nI_le (Nat.le_refl _) (by omega)) (br_t rfl (x_dup w1 8 a (by decide) (by omega) ⟨pk_in a 28 (by omega), ?_⟩))) (fun er ps z d' hd' => br_f (fun y => ?_) ?_)⟩
      · refine yrun _ (fun _ e' S' bT' bO' bH' wS' aS' => ⟨?_, rl_in (n := 0) (rf_0 h hd' (wf_dp w1) (wf_dp wS') (ag_dp aS' _ (by decide)))⟩) (fun er ps y => by rw [z] at y; cases y)
        rw [nI_clamp (by omega)]
        show S'.2.1 8 = upd R1.2.1 a (R1.2.1 8) a
        rw [pk_us]
        exact (aS' 8 (by decide)).2.1.symm
      · have := g1 er ps z
        rw [y] at this
        exact this (by decide)
      · refine yrun _ (fun y => by rw [z] at y; cases y) (fun er' ps' y e' S' j' v' bT' bO' bH' wS' aS' => ?_)
        rw [z] at y
        cases y
        exact ⟨rfl, rl_in (n := 0) (rf_0 h hd' w1 wS' aS')⟩
    · refine br_t rfl (br_t rfl ?_)
      refine y_outg ha (br_t rfl ⟨n + 1, y_mfl hT _ n 0 1 0 bT (by omega) (by decide) (by decide) (fun j hj => by omega) (fun y => by rw [hm] at y; cases y) (fun j' y bT' => ?_)⟩)
      rw [hm] at y
      cases y
      have hj : j ≤ n := mf_le (by omega) hm
      exact br_f (nI_pos (by omega)) ⟨rfl, rl_in (n := 0) (rf_0 h h.1 h.2.1 h.2.2.1 h.2.2.2.1)⟩
  · exact x1 _ (br_t rfl (y1 _ (br_f (by decide) ⟨rfl, rl_in h⟩)))
end
