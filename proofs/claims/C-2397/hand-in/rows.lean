section
theorem pk_us {f : Nat → Int32} {k : Nat} {x : Int32} : upd f k x k = x := if_pos rfl
theorem pk_un {f : Nat → Int32} {k j : Nat} {x : Int32} (h : j ≠ k) : upd f k x j = f j := if_neg h
theorem pk_sub {a b : Nat} (h : b ≤ a) : nI a - nI b = nI (a - b) := by
  obtain ⟨c, rfl⟩ : ∃ c, a = c + b := ⟨a - b, by omega⟩
  rw [← nI_add, Int32.add_sub_cancel, Nat.add_sub_cancel]
theorem pk_m1 (n : Nat) : nI (n + 1) + (-1) = nI n := by
  rw [← nI_1, Int32.add_assoc, show (1 : Int32) + (-1) = 0 from rfl, Int32.add_zero]
theorem pk_mul (a b : Nat) : nI a * nI b = nI (a * b) := (Int32.ofNat_mul a b).symm
theorem pk_div {a d : Nat} (ha : a < 2 ^ 31) (h0 : 0 < d) (hd : d < 2 ^ 31) : nI a / nI d = nI (a / d) := by
  apply Int32.toInt_inj.mp
  rw [lg_idiv_nonneg (by rw [nI_toInt ha]; omega) (by rw [nI_toInt hd]; omega), nI_toInt ha, nI_toInt hd, nI_toInt (Nat.lt_of_le_of_lt (Nat.div_le_self a d) ha)]
  first | rfl | exact (Int.natCast_ediv _ _).symm
theorem pk_rem {a d : Nat} (ha : a < 2 ^ 31) (h0 : 0 < d) (hd : d < 2 ^ 31) : nI a - nI a / nI d * nI d = nI (a % d) := by
  rw [pk_div ha h0 hd, pk_mul, pk_sub (Nat.div_mul_le_self a d)]
  exact congrArg nI (by have := Nat.div_add_mod' a d; omega)
theorem pk_sub_toInt {a b : Nat} (ha : a < 2 ^ 30) (hb : b < 2 ^ 30) : (nI a - nI b).toInt = (a : Int) - b := by
  rw [Int32.toInt_sub, nI_toInt (by omega), nI_toInt (by omega)]
  exact Int.bmod_eq_of_le (by omega) (by omega)
theorem pk_sneg {a b : Nat} (hb : b < 2 ^ 30) (h : a < b) : nI a - nI b < 0 := by
  rw [Int32.lt_iff_toInt_lt, pk_sub_toInt (by omega) hb, show (0 : Int32).toInt = 0 from by decide]
  omega
theorem pk_ix (x : Int32) {n : Nat} (hn : n < 2 ^ 31) : x < 0 ∨ nI n ≤ x ∨ ∃ j : Nat, j < n ∧ x = nI j := by
  by_cases h : x < 0
  · exact Or.inl h
  · obtain ⟨j, hj, rfl⟩ := nI_of h
    by_cases h2 : j < n
    · exact Or.inr (Or.inr ⟨j, h2, rfl⟩)
    · exact Or.inr (Or.inl (nI_le (by omega) hj))
theorem pk_le {x y : Int32} {A B : Prop} (a b : Nat) (f : a ≤ b → A) (g : b < a → B) (hx : x = nI a := by rfl) (hy : y = nI b := by rfl) (ha : a < 2 ^ 31 := by omega) (hb : b < 2 ^ 31 := by omega) : (x ≤ y → A) ∧ (¬ x ≤ y → B) := by
  subst hx hy
  rw [nI_leI ha hb]
  exact ⟨f, fun z => g (by omega)⟩
theorem pk_lt {x y : Int32} {A B : Prop} (a b : Nat) (f : a < b → A) (g : b ≤ a → B) (hx : x = nI a := by rfl) (hy : y = nI b := by rfl) (ha : a < 2 ^ 31 := by omega) (hb : b < 2 ^ 31 := by omega) : (x < y → A) ∧ (¬ x < y → B) := by
  subst hx hy
  rw [nI_ltI ha hb]
  exact ⟨f, fun z => g (by omega)⟩
theorem pk_eq {x y : Int32} {A B : Prop} (a b : Nat) (f : a = b → A) (g : a ≠ b → B) (hx : x = nI a := by rfl) (hy : y = nI b := by rfl) (ha : a < 2 ^ 31 := by omega) (hb : b < 2 ^ 31 := by omega) : (x = y → A) ∧ (¬ x = y → B) := by
  subst hx hy
  rw [nI_eq ha hb]
  exact ⟨f, g⟩
theorem pk_in {x : Int32} (n N : Nat) (h : n < N) (hx : x = nI n := by rfl) (hN : N < 2 ^ 31 := by omega) : vp_in x N := by
  subst hx
  exact vp_in_nI h hN
theorem pk_cl {x : Int32} (n : Nat) (hx : x = nI n := by rfl) (h : n < 2 ^ 31 := by omega) : x.toNatClampNeg = n := by
  subst hx
  exact nI_clamp h
theorem pk_tn {n : Nat} (h : n < 2 ^ 32) : (nI n).toBitVec.toNat = n := Nat.mod_eq_of_lt h
theorem pk_and (x : Int32) {m : Int32} (k : Nat) (hm : m.toBitVec.toNat = 2 ^ k - 1) : x &&& m = nI (x.toBitVec.toNat % 2 ^ k) := by
  apply Int32.toBitVec_inj.mp
  apply BitVec.eq_of_toNat_eq
  rw [Int32.toBitVec_and, BitVec.toNat_and, hm, Nat.and_two_pow_sub_one_eq_mod]
  show _ = (BitVec.ofNat 32 _).toNat
  rw [BitVec.toNat_ofNat]
  exact (Nat.mod_eq_of_lt (Nat.lt_of_le_of_lt (Nat.mod_le _ _) x.toBitVec.isLt)).symm
theorem pk_andN {n : Nat} (h : n < 2 ^ 32) {m : Int32} (k : Nat) (hm : m.toBitVec.toNat = 2 ^ k - 1) : nI n &&& m = nI (n % 2 ^ k) := by
  rw [pk_and _ k hm, pk_tn h]
theorem pk_andE (x : Int32) {m : Int32} (k : Nat) (hm : m.toBitVec.toNat = 2 ^ k - 1) : ∃ j : Nat, j < 2 ^ k ∧ x &&& m = nI j := ⟨_, Nat.mod_lt _ (Nat.two_pow_pos k), pk_and x k hm⟩
theorem pk_andIn (x : Int32) {m : Int32} (k : Nat) (hm : m.toBitVec.toNat = 2 ^ k - 1) (hk : k ≤ 30) : vp_in (x &&& m) (2 ^ k) := by
  obtain ⟨j, hj, e⟩ := pk_andE x k hm
  rw [e]
  exact vp_in_nI hj (Nat.lt_of_le_of_lt (Nat.pow_le_pow_right (by decide) hk) (by decide))
theorem pk_shl (a s : Int32) (k : Nat) (hs : (s.toBitVec.smod 32).toNat = k) : (a <<< s).toBitVec.toNat = a.toBitVec.toNat * 2 ^ k % 2 ^ 32 := by
  show (a.toBitVec <<< (s.toBitVec.smod 32).toNat).toNat = _
  rw [hs, BitVec.toNat_shiftLeft, Nat.shiftLeft_eq]
theorem pk_shlN {n : Nat} (s : Int32) (k : Nat) (hs : (s.toBitVec.smod 32).toNat = k) (h : n * 2 ^ k < 2 ^ 32) : nI n <<< s = nI (n * 2 ^ k) := by
  apply Int32.toBitVec_inj.mp
  apply BitVec.eq_of_toNat_eq
  have hn : n < 2 ^ 32 := Nat.lt_of_le_of_lt (Nat.le_mul_of_pos_right n (Nat.two_pow_pos k)) h
  rw [pk_shl _ _ k hs, pk_tn hn, pk_tn h, Nat.mod_eq_of_lt h]
theorem pk_shr (a s : Int32) (k : Nat) (hs : (s.toBitVec.smod 32).toNat = k) : (a >>> s).toInt = a.toInt >>> k := by
  show (a.toBitVec.sshiftRight (s.toBitVec.smod 32).toNat).toInt = _
  rw [hs, BitVec.toInt_sshiftRight]
  rfl
theorem pk_shrN {n : Nat} (h : n < 2 ^ 31) (s : Int32) (k : Nat) (hs : (s.toBitVec.smod 32).toNat = k) : nI n >>> s = nI (n / 2 ^ k) := by
  apply Int32.toInt_inj.mp
  have h2 : n / 2 ^ k ≤ n := Nat.div_le_self _ _
  rw [pk_shr _ _ k hs, nI_toInt h, nI_toInt (by omega), Int.shiftRight_eq_div_pow]
  rfl
end
section
/-! numbers: subscripts shifted by 51, keys in base 128 -/
def gt_sI (n : Nat) : Int32 := nI n - 51
def gt_dig (K k : Nat) : Nat := if k = 0 then K / 16384 else if k = 1 then K / 128 % 128 else K % 128
def gt_len (K : Nat) : Nat := if K % 128 ≠ 0 then 3 else if K / 128 % 128 ≠ 0 then 2 else 1
def gt_ok (K : Nat) : Prop := 1 ≤ K / 16384 ∧ K / 16384 ≤ 101 ∧ K / 128 % 128 ≤ 101 ∧ K % 128 ≤ 101 ∧ (K / 128 % 128 = 0 → K % 128 = 0)
def gt_un (n : Nat) : Nat := if n = 0 then 16384 else if n = 1 then 128 else 1
def gt_key (p : Nat → Nat) : Nat → Nat
  | 0 => 0
  | n + 1 => gt_key p n + p n * gt_un n
def gt_end (p : Nat → Nat) (n : Nat) : Nat := if n = 0 then 2097152 else gt_key p n + gt_un (n - 1)
def gt_in (p : Nat → Nat) (n K : Nat) : Prop := gt_key p n ≤ K ∧ K < gt_end p n
def gt_pp (p : Nat → Nat) (d : Nat) : Prop := d ≤ 3 ∧ ∀ i, i < d → 1 ≤ p i ∧ p i ≤ 101
theorem gt_c3 {P : Nat → Prop} (h0 : P 0) (h1 : P 1) (h2 : P 2) (h3 : P 3) {d : Nat} (h : d ≤ 3) : P d := by
  have e : d = 0 ∨ d = 1 ∨ d = 2 ∨ d = 3 := by omega
  rcases e with e | e | e | e <;> subst e <;> assumption
theorem gt_c2 {P : Nat → Prop} (h0 : P 0) (h1 : P 1) (h2 : P 2) {d : Nat} (h : d < 3) : P d := by
  have e : d = 0 ∨ d = 1 ∨ d = 2 := by omega
  rcases e with e | e | e <;> subst e <;> assumption
theorem gt_sI_toInt {n : Nat} (h : n ≤ 300) : (gt_sI n).toInt = (n : Int) - 51 := pk_sub_toInt (a := n) (b := 51) (by omega) (by omega)
theorem gt_sI_eq {a b : Nat} (ha : a ≤ 300) (hb : b ≤ 300) : gt_sI a = gt_sI b ↔ a = b := by
  rw [← Int32.toInt_inj, gt_sI_toInt ha, gt_sI_toInt hb]; omega
theorem gt_sI_le {a b : Nat} (ha : a ≤ 300) (hb : b ≤ 300) : gt_sI a ≤ gt_sI b ↔ a ≤ b := by
  rw [Int32.le_iff_toInt_le, gt_sI_toInt ha, gt_sI_toInt hb]; omega
theorem gt_sI0 : gt_sI 0 = -51 := by decide
theorem gt_sI_ne {a : Nat} (ha : a ≤ 300) : ¬ gt_sI a = -100 := by
  rw [← Int32.toInt_inj, gt_sI_toInt ha, show (-100 : Int32).toInt = -100 from by decide]; omega
theorem gt_sI_add (n : Nat) : gt_sI n + 51 = nI n := Int32.sub_add_cancel _ _
theorem gt_sI_sub (a b : Nat) : gt_sI a - gt_sI b = nI a - nI b := by unfold gt_sI; grind
theorem gt_way1 {a b : Nat} (ha : a ≤ 300) (hb : b ≤ 300) : (gt_sI a - gt_sI b) * 1 ≤ 0 ↔ a ≤ b := by
  rw [Int32.mul_one, gt_sI_sub, Int32.le_iff_toInt_le, pk_sub_toInt (by omega) (by omega), show (0 : Int32).toInt = 0 from by decide]; omega
theorem gt_way2 {a b : Nat} (ha : a ≤ 300) (hb : b ≤ 300) : (gt_sI a - gt_sI b) * (-1) ≤ 0 ↔ b ≤ a := by
  have e : (gt_sI a - gt_sI b) * (-1) = nI b - nI a := by unfold gt_sI; grind
  rw [e, Int32.le_iff_toInt_le, pk_sub_toInt (by omega) (by omega), show (0 : Int32).toInt = 0 from by decide]; omega
theorem gt_sI_of {x : Int32} (h1 : ¬ x < -50) (h2 : x ≤ 50) : ∃ s : Nat, 1 ≤ s ∧ s ≤ 101 ∧ x = gt_sI s := by
  rw [Int32.lt_iff_toInt_lt, show (-50 : Int32).toInt = -50 from by decide] at h1
  rw [Int32.le_iff_toInt_le, show (50 : Int32).toInt = 50 from by decide] at h2
  refine ⟨(x.toInt + 51).toNat, by omega, by omega, ?_⟩
  rw [← Int32.toInt_inj, gt_sI_toInt (by omega)]; omega
theorem gt_k0 (p : Nat → Nat) : gt_key p 0 = 0 := rfl
theorem gt_k1 (p : Nat → Nat) : gt_key p 1 = p 0 * 16384 := by simp [gt_key, gt_un]
theorem gt_k2 (p : Nat → Nat) : gt_key p 2 = p 0 * 16384 + p 1 * 128 := by simp [gt_key, gt_un]
theorem gt_k3 (p : Nat → Nat) : gt_key p 3 = p 0 * 16384 + p 1 * 128 + p 2 := by simp [gt_key, gt_un]
theorem gt_e0 (p : Nat → Nat) : gt_end p 0 = 2097152 := rfl
theorem gt_e1 (p : Nat → Nat) : gt_end p 1 = p 0 * 16384 + 16384 := by simp [gt_end, gt_key, gt_un]
theorem gt_e2 (p : Nat → Nat) : gt_end p 2 = p 0 * 16384 + p 1 * 128 + 128 := by simp [gt_end, gt_key, gt_un]
theorem gt_e3 (p : Nat → Nat) : gt_end p 3 = p 0 * 16384 + p 1 * 128 + p 2 + 1 := by simp [gt_end, gt_key, gt_un]
theorem gt_d0 (K : Nat) : gt_dig K 0 = K / 16384 := rfl
theorem gt_d1 (K : Nat) : gt_dig K 1 = K / 128 % 128 := rfl
theorem gt_d2 (K : Nat) : gt_dig K 2 = K % 128 := rfl
theorem gt_u0 : gt_un 0 = 16384 := rfl
theorem gt_u1 : gt_un 1 = 128 := rfl
theorem gt_u2 : gt_un 2 = 1 := rfl
theorem gt_ok_lt {K : Nat} (h : gt_ok K) : K < 2097152 := by unfold gt_ok at h; omega
theorem gt_len_c (K : Nat) : (¬ K % 128 = 0 ∧ gt_len K = 3) ∨ (K % 128 = 0 ∧ ¬ K / 128 % 128 = 0 ∧ gt_len K = 2) ∨ (K % 128 = 0 ∧ K / 128 % 128 = 0 ∧ gt_len K = 1) := by
  unfold gt_len
  by_cases a : K % 128 = 0
  · by_cases b : K / 128 % 128 = 0
    · rw [if_neg (by omega), if_neg (by omega)]; omega
    · rw [if_neg (by omega), if_pos (by omega)]; omega
  · rw [if_pos (by omega)]; omega
theorem gt_len_le (K : Nat) : 1 ≤ gt_len K ∧ gt_len K ≤ 3 := by have := gt_len_c K; omega
theorem gt_dig_le {K : Nat} (h : gt_ok K) (k : Nat) : gt_dig K k ≤ 101 := by
  unfold gt_ok at h; unfold gt_dig
  split
  · omega
  · split <;> omega
theorem gt_dig_z {K k : Nat} (h : gt_ok K) (hk : gt_len K ≤ k) (h3 : k < 3) : gt_dig K k = 0 := by
  unfold gt_ok at h
  revert hk
  refine gt_c2 (P := fun k => gt_len K ≤ k → gt_dig K k = 0) ?_ ?_ ?_ h3
  · intro hk; have := gt_len_le K; omega
  · intro hk; rw [gt_d1]; have := gt_len_c K; omega
  · intro hk; rw [gt_d2]; have := gt_len_c K; omega
theorem gt_dig_p {K k : Nat} (h : gt_ok K) (hk : k < gt_len K) : 1 ≤ gt_dig K k := by
  have h3 := gt_len_le K
  unfold gt_ok at h
  have hk3 : k < 3 := by omega
  revert hk
  refine gt_c2 (P := fun k => k < gt_len K → 1 ≤ gt_dig K k) ?_ ?_ ?_ hk3
  · intro hk; rw [gt_d0]; omega
  · intro hk; rw [gt_d1]; have := gt_len_c K; omega
  · intro hk; rw [gt_d2]; have := gt_len_c K; omega
theorem gt_dig_ext {K J : Nat} (h0 : gt_dig K 0 = gt_dig J 0) (h1 : gt_dig K 1 = gt_dig J 1) (h2 : gt_dig K 2 = gt_dig J 2) : K = J := by
  rw [gt_d0, gt_d0] at h0; rw [gt_d1, gt_d1] at h1; rw [gt_d2, gt_d2] at h2; omega
theorem gt_len_of {K : Nat} (h : gt_ok K) {n : Nat} (hn : n < 3) : n < gt_len K ↔ 1 ≤ gt_dig K n := by
  constructor
  · exact gt_dig_p h
  · intro z
    rcases Nat.lt_or_ge n (gt_len K) with q | q
    · exact q
    · have := gt_dig_z h q hn; omega
theorem gt_in_iff {p : Nat → Nat} {n K : Nat} (hp : gt_pp p n) (hK : gt_ok K) : gt_in p n K ↔ n ≤ gt_len K ∧ ∀ k, k < n → gt_dig K k = p k := by
  obtain ⟨hn, hp⟩ := hp
  have hL := gt_len_le K
  unfold gt_ok at hK
  revert hp
  refine gt_c3 (P := fun n => (∀ i, i < n → 1 ≤ p i ∧ p i ≤ 101) → (gt_in p n K ↔ n ≤ gt_len K ∧ ∀ k, k < n → gt_dig K k = p k)) ?_ ?_ ?_ ?_ hn
  · intro _
    unfold gt_in; rw [gt_k0, gt_e0]
    exact ⟨fun _ => ⟨by omega, fun k hk => by omega⟩, fun _ => by omega⟩
  · intro hp
    have p0 := hp 0 (by omega)
    unfold gt_in; rw [gt_k1, gt_e1]
    constructor
    · intro z
      refine ⟨by omega, fun k hk => ?_⟩
      have e : k = 0 := by omega
      subst e; rw [gt_d0]; omega
    · intro z
      have q0 := z.2 0 (by omega); rw [gt_d0] at q0; omega
  · intro hp
    have p0 := hp 0 (by omega)
    have p1 := hp 1 (by omega)
    unfold gt_in; rw [gt_k2, gt_e2]
    constructor
    · intro z
      refine ⟨by have := gt_len_c K; omega, fun k hk => ?_⟩
      have e : k = 0 ∨ k = 1 := by omega
      rcases e with e | e <;> subst e
      · rw [gt_d0]; omega
      · rw [gt_d1]; omega
    · intro z
      have q0 := z.2 0 (by omega); rw [gt_d0] at q0
      have q1 := z.2 1 (by omega); rw [gt_d1] at q1
      omega
  · intro hp
    have p0 := hp 0 (by omega)
    have p1 := hp 1 (by omega)
    have p2 := hp 2 (by omega)
    unfold gt_in; rw [gt_k3, gt_e3]
    constructor
    · intro z
      refine ⟨by have := gt_len_c K; omega, fun k hk => ?_⟩
      have e : k = 0 ∨ k = 1 ∨ k = 2 := by omega
      rcases e with e | e | e <;> subst e
      · rw [gt_d0]; omega
      · rw [gt_d1]; omega
      · rw [gt_d2]; omega
    · intro z
      have q0 := z.2 0 (by omega); rw [gt_d0] at q0
      have q1 := z.2 1 (by omega); rw [gt_d1] at q1
      have q2 := z.2 2 (by omega); rw [gt_d2] at q2
      omega
/-- the pointer's digit at a level, 0 behind its depth -/
def gt_pd (p : Nat → Nat) (d k : Nat) : Nat := if k < d then p k else 0
theorem gt_key_dig {p : Nat → Nat} {d : Nat} (hp : gt_pp p d) {k : Nat} (hk : k < 3) : gt_dig (gt_key p d) k = gt_pd p d k := by
  obtain ⟨hn, hp⟩ := hp
  revert hp
  refine gt_c3 (P := fun d => (∀ i, i < d → 1 ≤ p i ∧ p i ≤ 101) → gt_dig (gt_key p d) k = gt_pd p d k) ?_ ?_ ?_ ?_ hn
  · intro _; rw [gt_k0]
    refine gt_c2 (P := fun k => gt_dig 0 k = gt_pd p 0 k) rfl rfl rfl hk
  · intro hp
    have p0 := hp 0 (by omega)
    rw [gt_k1]
    refine gt_c2 (P := fun k => gt_dig (p 0 * 16384) k = gt_pd p 1 k) ?_ ?_ ?_ hk
    · rw [gt_d0]; show _ = p 0; omega
    · rw [gt_d1]; show _ = 0; omega
    · rw [gt_d2]; show _ = 0; omega
  · intro hp
    have p0 := hp 0 (by omega)
    have p1 := hp 1 (by omega)
    rw [gt_k2]
    refine gt_c2 (P := fun k => gt_dig (p 0 * 16384 + p 1 * 128) k = gt_pd p 2 k) ?_ ?_ ?_ hk
    · rw [gt_d0]; show _ = p 0; omega
    · rw [gt_d1]; show _ = p 1; omega
    · rw [gt_d2]; show _ = 0; omega
  · intro hp
    have p0 := hp 0 (by omega)
    have p1 := hp 1 (by omega)
    have p2 := hp 2 (by omega)
    rw [gt_k3]
    refine gt_c2 (P := fun k => gt_dig (p 0 * 16384 + p 1 * 128 + p 2) k = gt_pd p 3 k) ?_ ?_ ?_ hk
    · rw [gt_d0]; show _ = p 0; omega
    · rw [gt_d1]; show _ = p 1; omega
    · rw [gt_d2]; show _ = p 2; omega
theorem gt_pd_lt {p : Nat → Nat} {d k : Nat} (h : k < d) : gt_pd p d k = p k := if_pos h
theorem gt_pd_ge {p : Nat → Nat} {d k : Nat} (h : d ≤ k) : gt_pd p d k = 0 := if_neg (by omega)
theorem gt_pd_le {p : Nat → Nat} {d : Nat} (hp : gt_pp p d) (k : Nat) : gt_pd p d k ≤ 101 := by
  unfold gt_pd; split
  · exact (hp.2 k (by assumption)).2
  · omega
theorem gt_key_ok {p : Nat → Nat} {d : Nat} (hp : gt_pp p d) (h0 : 0 < d) : gt_ok (gt_key p d) := by
  have q0 := gt_key_dig hp (k := 0) (by omega)
  have q1 := gt_key_dig hp (k := 1) (by omega)
  have q2 := gt_key_dig hp (k := 2) (by omega)
  have l0 := gt_pd_le hp 0
  have l1 := gt_pd_le hp 1
  have l2 := gt_pd_le hp 2
  have e0 : gt_pd p d 0 = p 0 := gt_pd_lt h0
  have f0 := hp.2 0 h0
  rw [gt_d0] at q0; rw [gt_d1] at q1; rw [gt_d2] at q2
  refine ⟨by omega, by omega, by omega, by omega, fun z => ?_⟩
  rcases Nat.lt_or_ge 1 d with z1 | z1
  · have e1 : gt_pd p d 1 = p 1 := gt_pd_lt z1
    have f1 := hp.2 1 z1
    omega
  · have e2 : gt_pd p d 2 = 0 := gt_pd_ge (by omega)
    omega
theorem gt_key_len {p : Nat → Nat} {d : Nat} (hp : gt_pp p d) (h0 : 0 < d) : gt_len (gt_key p d) = d := by
  have ok := gt_key_ok hp h0
  have hL := gt_len_le (gt_key p d)
  have a : ∀ n, n < 3 → (n < gt_len (gt_key p d) ↔ n < d) := by
    intro n hn
    rw [gt_len_of ok hn, gt_key_dig hp hn]
    unfold gt_pd
    constructor
    · intro z; split at z <;> omega
    · intro z; rw [if_pos z]; exact (hp.2 n z).1
  have h3 := hp.1
  have a0 := a 0 (by omega); have a1 := a 1 (by omega); have a2 := a 2 (by omega)
  omega
theorem gt_here_iff {p : Nat → Nat} {d K : Nat} (hp : gt_pp p d) (hK : gt_ok K) : (gt_len K = d ∧ gt_in p d K) ↔ K = gt_key p d := by
  rw [gt_in_iff hp hK]
  have hL := gt_len_le K
  constructor
  · intro ⟨a, b, c⟩
    have f : ∀ k, k < 3 → gt_dig K k = gt_dig (gt_key p d) k := by
      intro k hk
      rw [gt_key_dig hp hk]
      rcases Nat.lt_or_ge k d with z | z
      · rw [gt_pd_lt z]; exact c k z
      · rw [gt_pd_ge z]; exact gt_dig_z hK (by omega) hk
    exact gt_dig_ext (f 0 (by omega)) (f 1 (by omega)) (f 2 (by omega))
  · intro e
    rcases Nat.eq_zero_or_pos d with z | z
    · subst z; rw [gt_k0] at e; subst e; unfold gt_ok at hK; omega
    · have l := gt_key_len hp z
      rw [← e] at l
      refine ⟨l, by omega, fun k hk => ?_⟩
      rw [e, gt_key_dig hp (by have := hp.1; omega), gt_pd_lt hk]
theorem gt_key_lt {p : Nat → Nat} {d : Nat} (hp : gt_pp p d) : gt_key p d < 2097152 := by
  rcases Nat.eq_zero_or_pos d with z | z
  · subst z; rw [gt_k0]; omega
  · exact gt_ok_lt (gt_key_ok hp z)
theorem gt_end_le {p : Nat → Nat} {d : Nat} (hp : gt_pp p d) : gt_end p d ≤ 2097152 := by
  obtain ⟨hn, hp⟩ := hp
  revert hp
  refine gt_c3 (P := fun d => (∀ i, i < d → 1 ≤ p i ∧ p i ≤ 101) → gt_end p d ≤ 2097152) ?_ ?_ ?_ ?_ hn
  · intro _; rw [gt_e0]; omega
  · intro hp; have p0 := hp 0 (by omega); rw [gt_e1]; omega
  · intro hp; have p0 := hp 0 (by omega); have p1 := hp 1 (by omega); rw [gt_e2]; omega
  · intro hp; have p0 := hp 0 (by omega); have p1 := hp 1 (by omega); have p2 := hp 2 (by omega); rw [gt_e3]; omega
theorem gt_pp_le {p : Nat → Nat} {d n : Nat} (hp : gt_pp p d) (h : n ≤ d) : gt_pp p n := ⟨by have := hp.1; omega, fun i hi => hp.2 i (by omega)⟩
end
section
/-! the ranges of keys that the questions ask for -/
theorem gt_mono {p : Nat → Nat} {n K J : Nat} (hn : n < 3) (a : gt_in p n K) (b : gt_in p n J) (h : K ≤ J) : gt_dig K n ≤ gt_dig J n := by
  revert a b
  unfold gt_in
  refine gt_c2 (P := fun n => gt_key p n ≤ K ∧ K < gt_end p n → gt_key p n ≤ J ∧ J < gt_end p n → gt_dig K n ≤ gt_dig J n) ?_ ?_ ?_ hn
  · rw [gt_k0, gt_e0, gt_d0, gt_d0]; omega
  · rw [gt_k1, gt_e1, gt_d1, gt_d1]; omega
  · rw [gt_k2, gt_e2, gt_d2, gt_d2]; omega
theorem gt_fit_next {p : Nat → Nat} {n K : Nat} (hp : gt_pp p (n + 1)) (hK : gt_ok K) : (gt_in p n K ∧ n < gt_len K ∧ ¬ gt_dig K n ≤ p n) ↔ gt_end p (n + 1) ≤ K ∧ K < gt_end p n := by
  have hn : n < 3 := by have := hp.1; omega
  rw [gt_len_of hK hn]
  have q : ∀ i, i < n + 1 → 1 ≤ p i ∧ p i ≤ 101 := hp.2
  unfold gt_ok at hK
  unfold gt_in
  revert q
  refine gt_c2 (P := fun n => (∀ i, i < n + 1 → 1 ≤ p i ∧ p i ≤ 101) → (((gt_key p n ≤ K ∧ K < gt_end p n) ∧ 1 ≤ gt_dig K n ∧ ¬ gt_dig K n ≤ p n) ↔ gt_end p (n + 1) ≤ K ∧ K < gt_end p n)) ?_ ?_ ?_ hn
  · intro q; have p0 := q 0 (by omega); rw [gt_k0, gt_e0, gt_e1, gt_d0]; omega
  · intro q; have p0 := q 0 (by omega); have p1 := q 1 (by omega); rw [gt_k1, gt_e1, gt_e2, gt_d1]; omega
  · intro q; have p0 := q 0 (by omega); have p1 := q 1 (by omega); have p2 := q 2 (by omega); rw [gt_k2, gt_e2, gt_e3, gt_d2]; omega
theorem gt_fit_prev {p : Nat → Nat} {n K : Nat} (hp : gt_pp p (n + 1)) (hK : gt_ok K) : (gt_in p n K ∧ n < gt_len K ∧ ¬ p n ≤ gt_dig K n) ↔ gt_key p n + gt_un n ≤ K ∧ K < gt_key p (n + 1) := by
  have hn : n < 3 := by have := hp.1; omega
  rw [gt_len_of hK hn]
  have q : ∀ i, i < n + 1 → 1 ≤ p i ∧ p i ≤ 101 := hp.2
  unfold gt_ok at hK
  unfold gt_in
  revert q
  refine gt_c2 (P := fun n => (∀ i, i < n + 1 → 1 ≤ p i ∧ p i ≤ 101) → (((gt_key p n ≤ K ∧ K < gt_end p n) ∧ 1 ≤ gt_dig K n ∧ ¬ p n ≤ gt_dig K n) ↔ gt_key p n + gt_un n ≤ K ∧ K < gt_key p (n + 1))) ?_ ?_ ?_ hn
  · intro q; have p0 := q 0 (by omega); rw [gt_k0, gt_e0, gt_k1, gt_d0, gt_u0]; omega
  · intro q; have p0 := q 0 (by omega); have p1 := q 1 (by omega); rw [gt_k1, gt_e1, gt_k2, gt_d1, gt_u1]; omega
  · intro q; have p0 := q 0 (by omega); have p1 := q 1 (by omega); have p2 := q 2 (by omega); rw [gt_k2, gt_e2, gt_k3, gt_d2, gt_u2]; omega
theorem gt_fit_first {p : Nat → Nat} {n K : Nat} (hp : gt_pp p n) (hn : n < 3) (hK : gt_ok K) : (gt_in p n K ∧ n < gt_len K ∧ ¬ gt_dig K n ≤ 0) ↔ gt_key p n + 1 ≤ K ∧ K < gt_end p n := by
  rw [gt_len_of hK hn]
  have q : ∀ i, i < n → 1 ≤ p i ∧ p i ≤ 101 := hp.2
  unfold gt_ok at hK
  unfold gt_in
  revert q
  refine gt_c2 (P := fun n => (∀ i, i < n → 1 ≤ p i ∧ p i ≤ 101) → (((gt_key p n ≤ K ∧ K < gt_end p n) ∧ 1 ≤ gt_dig K n ∧ ¬ gt_dig K n ≤ 0) ↔ gt_key p n + 1 ≤ K ∧ K < gt_end p n)) ?_ ?_ ?_ hn
  · intro q; rw [gt_k0, gt_e0, gt_d0]; omega
  · intro q; have p0 := q 0 (by omega); rw [gt_k1, gt_e1, gt_d1]; omega
  · intro q; have p0 := q 0 (by omega); have p1 := q 1 (by omega); rw [gt_k2, gt_e2, gt_d2]; omega
/-- what lies below the pointer's node: longer than it, and begins with it -/
theorem gt_fit_data {p : Nat → Nat} {d K : Nat} (hp : gt_pp p d) (hK : gt_ok K) : (gt_in p d K ∧ ¬ gt_len K ≤ d) ↔ gt_key p d + 1 ≤ K ∧ K < gt_end p d := by
  have h3 := hp.1
  have hL := gt_len_le K
  rcases Nat.lt_or_ge d 3 with z | z
  · rw [← gt_fit_first hp z hK]
    constructor
    · intro ⟨a, b⟩
      have := gt_dig_p hK (k := d) (by omega)
      exact ⟨a, by omega, by omega⟩
    · intro ⟨a, b, c⟩; exact ⟨a, by omega⟩
  · have e : d = 3 := by omega
    subst e
    rw [gt_k3, gt_e3]
    constructor
    · intro ⟨a, b⟩; omega
    · intro ⟨a, b⟩; omega
theorem gt_lex {K J k : Nat} (hk : k < 3) (hq : ∀ j, j < k → gt_dig K j = gt_dig J j) (h : gt_dig K k < gt_dig J k) : K < J := by
  revert hq h
  refine gt_c2 (P := fun k => (∀ j, j < k → gt_dig K j = gt_dig J j) → gt_dig K k < gt_dig J k → K < J) ?_ ?_ ?_ hk
  · intro _ h; rw [gt_d0, gt_d0] at h; omega
  · intro hq h; have q0 := hq 0 (by omega); rw [gt_d0, gt_d0] at q0; rw [gt_d1, gt_d1] at h; omega
  · intro hq h
    have q0 := hq 0 (by omega); have q1 := hq 1 (by omega)
    rw [gt_d0, gt_d0] at q0; rw [gt_d1, gt_d1] at q1; rw [gt_d2, gt_d2] at h; omega
theorem gt_unit : ∀ {n : Nat}, n < 3 → (1 : Int32) <<< ((14 - (7 * nI n)) &&& 31) = nI (gt_un n) := by
  intro n hn
  refine gt_c2 (P := fun n => (1 : Int32) <<< ((14 - (7 * nI n)) &&& 31) = nI (gt_un n)) ?_ ?_ ?_ hn <;> decide
theorem gt_subAt {n K : Nat} (hn : n < 3) (hK : K < 2097152) : ((nI K >>> ((14 - (7 * nI n)) &&& 31)) &&& 127) - 51 = gt_sI (gt_dig K n) := by
  refine gt_c2 (P := fun n => ((nI K >>> ((14 - (7 * nI n)) &&& 31)) &&& 127) - 51 = gt_sI (gt_dig K n)) ?_ ?_ ?_ hn
  · rw [pk_shrN (by omega) _ 14 (by decide), pk_andN (by omega) 7 (by decide), gt_d0]
    have e : K / 2 ^ 14 % 2 ^ 7 = K / 16384 := by omega
    rw [e]; rfl
  · rw [pk_shrN (by omega) _ 7 (by decide), pk_andN (by omega) 7 (by decide), gt_d1]; rfl
  · rw [pk_shrN (by omega) _ 0 (by decide), pk_andN (by omega) 7 (by decide), gt_d2]
    have e : K / 2 ^ 0 % 2 ^ 7 = K % 128 := by omega
    rw [e]; rfl
/-- the key of a node below the pointer's, with s in place of the pointer's last subscript -/
def gt_tg (p : Nat → Nat) (n s K : Nat) : Nat := K + s * gt_un n - p n * gt_un n
theorem gt_tg_dig {p : Nat → Nat} {n s K : Nat} (hp : gt_pp p (n + 1)) (hs : 1 ≤ s ∧ s ≤ 101) (hK : gt_ok K) (hi : gt_in p (n + 1) K) : p n * gt_un n ≤ K + s * gt_un n ∧ ∀ k, k < 3 → gt_dig (gt_tg p n s K) k = if k = n then s else gt_dig K k := by
  have hn : n < 3 := by have := hp.1; omega
  have q : ∀ i, i < n + 1 → 1 ≤ p i ∧ p i ≤ 101 := hp.2
  unfold gt_ok at hK
  unfold gt_in at hi
  unfold gt_tg
  revert q hi
  refine gt_c2 (P := fun n => gt_key p (n + 1) ≤ K ∧ K < gt_end p (n + 1) → (∀ i, i < n + 1 → 1 ≤ p i ∧ p i ≤ 101) → p n * gt_un n ≤ K + s * gt_un n ∧ ∀ k, k < 3 → gt_dig (K + s * gt_un n - p n * gt_un n) k = if k = n then s else gt_dig K k) ?_ ?_ ?_ hn
  · intro hi q; have p0 := q 0 (by omega); rw [gt_k1, gt_e1] at hi; rw [gt_u0]
    refine ⟨by omega, fun k hk => ?_⟩
    refine gt_c2 (P := fun k => gt_dig (K + s * 16384 - p 0 * 16384) k = if k = 0 then s else gt_dig K k) ?_ ?_ ?_ hk
    · rw [gt_d0]; show _ = s; omega
    · rw [gt_d1]; show _ = gt_dig K 1; rw [gt_d1]; omega
    · rw [gt_d2]; show _ = gt_dig K 2; rw [gt_d2]; omega
  · intro hi q; have p0 := q 0 (by omega); have p1 := q 1 (by omega); rw [gt_k2, gt_e2] at hi; rw [gt_u1]
    refine ⟨by omega, fun k hk => ?_⟩
    refine gt_c2 (P := fun k => gt_dig (K + s * 128 - p 1 * 128) k = if k = 1 then s else gt_dig K k) ?_ ?_ ?_ hk
    · rw [gt_d0]; show _ = gt_dig K 0; rw [gt_d0]; omega
    · rw [gt_d1]; show _ = s; omega
    · rw [gt_d2]; show _ = gt_dig K 2; rw [gt_d2]; omega
  · intro hi q; have p0 := q 0 (by omega); have p1 := q 1 (by omega); have p2 := q 2 (by omega); rw [gt_k3, gt_e3] at hi; rw [gt_u2]
    refine ⟨by omega, fun k hk => ?_⟩
    refine gt_c2 (P := fun k => gt_dig (K + s * 1 - p 2 * 1) k = if k = 2 then s else gt_dig K k) ?_ ?_ ?_ hk
    · rw [gt_d0]; show _ = gt_dig K 0; rw [gt_d0]; omega
    · rw [gt_d1]; show _ = gt_dig K 1; rw [gt_d1]; omega
    · rw [gt_d2]; show _ = s; omega
theorem gt_tg_ok {p : Nat → Nat} {n s K : Nat} (hp : gt_pp p (n + 1)) (hs : 1 ≤ s ∧ s ≤ 101) (hK : gt_ok K) (hi : gt_in p (n + 1) K) : gt_ok (gt_tg p n s K) ∧ gt_len (gt_tg p n s K) = gt_len K := by
  have hn : n < 3 := by have := hp.1; omega
  have hd := (gt_tg_dig hp hs hK hi).2
  have hl := ((gt_in_iff hp hK).mp hi).1
  have q0 := hd 0 (by omega); have q1 := hd 1 (by omega); have q2 := hd 2 (by omega)
  rw [gt_d0, gt_d0] at q0; rw [gt_d1, gt_d1] at q1; rw [gt_d2, gt_d2] at q2
  unfold gt_ok at hK
  unfold gt_ok
  have c1 := gt_len_c K
  have c2 := gt_len_c (gt_tg p n s K)
  have e : n = 0 ∨ n = 1 ∨ n = 2 := by omega
  rcases e with e | e | e <;> subst e
  · rw [if_pos rfl] at q0; rw [if_neg (by decide)] at q1 q2; omega
  · rw [if_pos rfl] at q1; rw [if_neg (by decide)] at q0 q2; omega
  · rw [if_pos rfl] at q2; rw [if_neg (by decide)] at q0 q1; omega
theorem gt_twin_iff {p : Nat → Nat} {n s K J : Nat} (hp : gt_pp p (n + 1)) (hs : 1 ≤ s ∧ s ≤ 101) (hK : gt_ok K) (hi : gt_in p (n + 1) K) (hJ : gt_ok J) : (gt_len J = gt_len K ∧ ∀ k, k < gt_len K → gt_dig J k = if k = n then s else gt_dig K k) ↔ J = gt_tg p n s K := by
  have hd := (gt_tg_dig hp hs hK hi).2
  have ⟨ok, hl⟩ := gt_tg_ok hp hs hK hi
  have hL := gt_len_le K
  constructor
  · intro ⟨a, b⟩
    have f : ∀ k, k < 3 → gt_dig J k = gt_dig (gt_tg p n s K) k := by
      intro k hk
      rcases Nat.lt_or_ge k (gt_len K) with z | z
      · rw [b k z, hd k hk]
      · rw [gt_dig_z hJ (by omega) hk, gt_dig_z ok (by omega) hk]
    exact gt_dig_ext (f 0 (by omega)) (f 1 (by omega)) (f 2 (by omega))
  · intro e
    subst e
    exact ⟨hl, fun k hk => hd k (by omega)⟩
theorem gt_tg_inj {p : Nat → Nat} {n s K J : Nat} (hp : gt_pp p (n + 1)) (hs : 1 ≤ s ∧ s ≤ 101) (hK : gt_ok K) (hi : gt_in p (n + 1) K) (hJ : gt_ok J) (hj : gt_in p (n + 1) J) (h : gt_tg p n s K = gt_tg p n s J) : K = J := by
  have a := (gt_tg_dig hp hs hK hi).1
  have b := (gt_tg_dig hp hs hJ hj).1
  unfold gt_tg at h
  omega
theorem gt_tg_self {p : Nat → Nat} {n K : Nat} : gt_tg p n (p n) K = K := by unfold gt_tg; omega
theorem gt_tg_out {p : Nat → Nat} {n s K : Nat} (hp : gt_pp p (n + 1)) (hs : 1 ≤ s ∧ s ≤ 101) (hK : gt_ok K) (hi : gt_in p (n + 1) K) (hne : s ≠ p n) : ¬ gt_in p (n + 1) (gt_tg p n s K) := by
  intro z
  have ok := (gt_tg_ok hp hs hK hi).1
  have f := ((gt_in_iff hp ok).mp z).2 n (by omega)
  have hn : n < 3 := by have := hp.1; omega
  rw [(gt_tg_dig hp hs hK hi).2 n hn, if_pos rfl] at f
  exact hne f
theorem gt_tg_nI {p : Nat → Nat} {n s K : Nat} (h : p n * gt_un n ≤ K + s * gt_un n) : nI K + (nI s - nI (p n)) * nI (gt_un n) = nI (gt_tg p n s K) := by
  unfold gt_tg
  rw [← pk_sub h, ← nI_add, ← pk_mul, ← pk_mul]
  grind
end
section
/-! lists of nodes (key, value): sorted, distinct, a put, all up to order -/
abbrev gt_E : Type := Nat × Int32
def gt_srt (L : List gt_E) : Prop := L.Pairwise (fun a b => a.1 < b.1)
def gt_nd (L : List gt_E) : Prop := L.Pairwise (fun a b => a.1 ≠ b.1)
theorem gt_srt_nd {L : List gt_E} (h : gt_srt L) : gt_nd L := List.Pairwise.imp (fun {a b} z => Nat.ne_of_lt z) h
theorem gt_nd_perm {L M : List gt_E} (h : List.Perm L M) (n : gt_nd L) : gt_nd M := List.Perm.pairwise h n (fun {a b} z => Ne.symm z)
theorem gt_nd_inj {L : List gt_E} (h : gt_nd L) {k : Nat} {v w : Int32} (a : (k, v) ∈ L) (b : (k, w) ∈ L) : v = w := by
  induction L with
  | nil => exact absurd a (List.not_mem_nil)
  | cons e L ih =>
    have hc := List.pairwise_cons.mp h
    rcases List.mem_cons.mp a with a | a
    · rcases List.mem_cons.mp b with b | b
      · exact congrArg Prod.snd (a.trans b.symm)
      · exact absurd (show e.1 = k from congrArg Prod.fst a.symm) (hc.1 _ b)
    · rcases List.mem_cons.mp b with b | b
      · exact absurd (show e.1 = k from congrArg Prod.fst b.symm) (hc.1 _ a)
      · exact ih hc.2 a b
def gt_put (k : Nat) (v : Int32) (L : List gt_E) : List gt_E := (k, v) :: L.filter (fun e => decide (e.1 ≠ k))
theorem gt_put_perm {L M : List gt_E} (k : Nat) (v : Int32) (h : List.Perm L M) : List.Perm (gt_put k v L) (gt_put k v M) := List.Perm.cons _ (List.Perm.filter _ h)
theorem gt_fil_all {L : List gt_E} {k : Nat} (h : ∀ e, e ∈ L → e.1 ≠ k) : L.filter (fun e => decide (e.1 ≠ k)) = L :=
  List.filter_eq_self.mpr (fun e he => decide_eq_true (h e he))
theorem gt_put_new {L : List gt_E} {k : Nat} (v : Int32) (h : ∀ e, e ∈ L → e.1 ≠ k) : gt_put k v L = (k, v) :: L := by
  unfold gt_put; rw [gt_fil_all h]
theorem gt_put_mid {P S : List gt_E} {k : Nat} {w : Int32} (v : Int32) (h : gt_nd (P ++ (k, w) :: S)) : List.Perm (P ++ (k, v) :: S) (gt_put k v (P ++ (k, w) :: S)) := by
  have h2 := List.pairwise_append.mp h
  have h3 := List.pairwise_cons.mp h2.2.1
  unfold gt_put
  rw [List.filter_append, List.filter_cons_of_neg (by simp), gt_fil_all (fun e he => h2.2.2 e he _ (List.mem_cons_self)), gt_fil_all (fun e he => (h3.1 e he).symm)]
  exact List.perm_middle
theorem gt_put_nd {L : List gt_E} (k : Nat) (v : Int32) (h : gt_nd L) : gt_nd (gt_put k v L) := by
  refine List.pairwise_cons.mpr ⟨fun e he => ?_, List.Pairwise.filter _ h⟩
  have := (List.mem_filter.mp he).2
  exact fun z => (of_decide_eq_true this) z.symm
/-- puts, one behind another -/
def gt_puts (f : Nat → Nat) : List gt_E → List gt_E → List gt_E
  | [], L => L
  | e :: ms, L => gt_puts f ms (gt_put (f e.1) e.2 L)
theorem gt_puts_perm (f : Nat → Nat) : ∀ (ms : List gt_E) {L M : List gt_E}, List.Perm L M → List.Perm (gt_puts f ms L) (gt_puts f ms M)
  | [], _, _, h => h
  | e :: ms, _, _, h => gt_puts_perm f ms (gt_put_perm _ _ h)
def gt_free (f : Nat → Nat) (ms : List gt_E) (k : Nat) : Bool := ms.all (fun m => decide (f m.1 ≠ k))
theorem gt_puts_eq (f : Nat → Nat) : ∀ (ms : List gt_E) (L : List gt_E), gt_nd (ms.map (fun m => (f m.1, m.2))) → List.Perm (gt_puts f ms L) (ms.map (fun m => (f m.1, m.2)) ++ L.filter (fun e => gt_free f ms e.1))
  | [], L, _ => by
    have e : L.filter (fun e => gt_free f [] e.1) = L := List.filter_eq_self.mpr (fun e _ => rfl)
    rw [e]; exact List.Perm.refl _
  | m :: ms, L, h => by
    have h2 := List.pairwise_cons.mp h
    refine List.Perm.trans (gt_puts_eq f ms _ h2.2) ?_
    unfold gt_put
    have c : gt_free f ms (f m.1) = true := by
      refine List.all_eq_true.mpr (fun x hx => decide_eq_true ?_)
      exact (h2.1 (f x.1, x.2) (List.mem_map.mpr ⟨x, hx, rfl⟩)).symm
    rw [List.filter_cons_of_pos (p := fun e : gt_E => gt_free f ms e.1) c, List.filter_filter]
    have e : L.filter (fun a => gt_free f ms a.1 && decide (a.1 ≠ f m.1)) = L.filter (fun e => gt_free f (m :: ms) e.1) := by
      refine List.filter_congr (fun a _ => ?_)
      unfold gt_free
      rw [List.all_cons, Bool.and_comm]
      congr 1
      exact decide_eq_decide.mpr ⟨fun z w => z w.symm, fun z w => z w.symm⟩
    rw [e]
    exact List.perm_middle
theorem gt_free_perm (f : Nat → Nat) {ms ns : List gt_E} (h : List.Perm ms ns) (k : Nat) : gt_free f ms k = gt_free f ns k := List.Perm.all_eq h
theorem gt_puts_all (f : Nat → Nat) {ms ns L M : List gt_E} (h : List.Perm ms ns) (g : List.Perm L M) (n : gt_nd (ms.map (fun m => (f m.1, m.2)))) : List.Perm (gt_puts f ms L) (gt_puts f ns M) := by
  refine List.Perm.trans (gt_puts_eq f ms L n) (List.Perm.trans ?_ (gt_puts_eq f ns M (gt_nd_perm (List.Perm.map _ h) n)).symm)
  refine List.Perm.append (List.Perm.map _ h) ?_
  have e : (fun e : gt_E => gt_free f ms e.1) = (fun e : gt_E => gt_free f ns e.1) := funext (fun e => gt_free_perm f h e.1)
  rw [e]
  exact List.Perm.filter _ g
theorem gt_map_nd (f : Nat → Nat) {L : List gt_E} (h : gt_nd L) (hf : ∀ a b, a ∈ L → b ∈ L → f a.1 = f b.1 → a.1 = b.1) : gt_nd (L.map (fun m => (f m.1, m.2))) := by
  refine List.pairwise_map.mpr ?_
  exact List.Pairwise.imp_of_mem (fun {a b} ha hb z q => z (hf a b ha hb q)) h
/-- of a sorted list with all of P below k and all of S not: what is below k -/
theorem gt_fil_cut {P S : List gt_E} {q : gt_E → Bool} (h : ∀ e, e ∈ P → q e = true) (g : ∀ e, e ∈ S → q e = false) : (P ++ S).filter q = P := by
  rw [List.filter_append, List.filter_eq_self.mpr h, List.filter_eq_nil_iff.mpr (fun e he => by rw [g e he]; exact Bool.false_ne_true), List.append_nil]
theorem gt_srt_app {P S : List gt_E} : gt_srt (P ++ S) ↔ gt_srt P ∧ gt_srt S ∧ ∀ a, a ∈ P → ∀ b, b ∈ S → a.1 < b.1 := List.pairwise_append
theorem gt_srt_ins {P S : List gt_E} {k : Nat} {v : Int32} (h : gt_srt (P ++ S)) (a : ∀ e, e ∈ P → e.1 < k) (b : ∀ e, e ∈ S → k < e.1) : gt_srt (P ++ (k, v) :: S) := by
  have z := gt_srt_app.mp h
  refine gt_srt_app.mpr ⟨z.1, List.pairwise_cons.mpr ⟨fun e he => b e he, z.2.1⟩, fun x hx y hy => ?_⟩
  rcases List.mem_cons.mp hy with q | q
  · rw [q]; exact a x hx
  · exact z.2.2 x hx y q
theorem gt_srt_set {P S : List gt_E} {k : Nat} {v w : Int32} (h : gt_srt (P ++ (k, v) :: S)) : gt_srt (P ++ (k, w) :: S) := by
  have z := gt_srt_app.mp h
  have y := List.pairwise_cons.mp z.2.1
  refine gt_srt_app.mpr ⟨z.1, List.pairwise_cons.mpr ⟨fun e he => y.1 e he, y.2⟩, fun a ha b hb => ?_⟩
  rcases List.mem_cons.mp hb with q | q
  · rw [q]; exact z.2.2 a ha (k, v) List.mem_cons_self
  · exact z.2.2 a ha b (List.mem_cons_of_mem _ q)
theorem gt_srt_del {P S : List gt_E} {e : gt_E} (h : gt_srt (P ++ e :: S)) : gt_srt (P ++ S) := List.Pairwise.sublist (List.Sublist.append_left (List.sublist_cons_self e S) P) h
end
section
/-! the leaves as they lie in the arrays -/
theorem gt_idx {α : Type} {l : List α} {i : Nat} {a : α} (h : l[i]? = some a) : i < l.length := (List.getElem?_eq_some_iff.mp h).1
def gt_lf (sz ks vs : Nat → Int32) (l : Nat) (B : List gt_E) : Prop := B.length ≤ 8 ∧ sz l = nI B.length ∧ ∀ i e, B[i]? = some e → ks (l * 8 + i) = nI e.1 ∧ vs (l * 8 + i) = e.2
def gt_rp (sz ks vs : Nat → Int32) (o : Nat) (LL : List (List gt_E)) : Prop := ∀ l B, LL[l]? = some B → gt_lf sz ks vs (o + l) B
theorem gt_rp_nil {sz ks vs : Nat → Int32} {o : Nat} : gt_rp sz ks vs o [] := fun l B h => by simp at h
theorem gt_rp_cons {sz ks vs : Nat → Int32} {o : Nat} {B : List gt_E} {R : List (List gt_E)} : gt_rp sz ks vs o (B :: R) ↔ gt_lf sz ks vs o B ∧ gt_rp sz ks vs (o + 1) R := by
  constructor
  · intro h
    refine ⟨h 0 B rfl, fun l C hl => ?_⟩
    have := h (l + 1) C hl
    rw [show o + 1 + l = o + (l + 1) from by omega]
    exact this
  · intro ⟨a, b⟩ l C hl
    rcases l with _ | l
    · have e : B = C := Option.some.inj hl
      subst e; exact a
    · have := b l C hl
      rw [show o + (l + 1) = o + 1 + l from by omega]
      exact this
theorem gt_rp_app {sz ks vs : Nat → Int32} {R : List (List gt_E)} : ∀ {A : List (List gt_E)} {o : Nat}, gt_rp sz ks vs o (A ++ R) ↔ gt_rp sz ks vs o A ∧ gt_rp sz ks vs (o + A.length) R
  | [], o => ⟨fun h => ⟨gt_rp_nil, h⟩, fun h => h.2⟩
  | B :: A, o => by
    rw [List.cons_append, gt_rp_cons, gt_rp_cons, gt_rp_app (A := A), List.length_cons, show o + 1 + A.length = o + (A.length + 1) from by omega, and_assoc]
theorem gt_lf_keep {sz ks vs sz' ks' vs' : Nat → Int32} {l : Nat} {B : List gt_E} (h : gt_lf sz ks vs l B) (hs : sz' l = sz l) (hk : ∀ j, l * 8 ≤ j → j < l * 8 + 8 → ks' j = ks j) (hv : ∀ j, l * 8 ≤ j → j < l * 8 + 8 → vs' j = vs j) : gt_lf sz' ks' vs' l B := by
  refine ⟨h.1, hs.trans h.2.1, fun i e he => ?_⟩
  have hi := gt_idx he
  have h8 := h.1
  rw [hk _ (by omega) (by omega), hv _ (by omega) (by omega)]
  exact h.2.2 i e he
theorem gt_rp_keep {sz ks vs sz' ks' vs' : Nat → Int32} {o : Nat} {LL : List (List gt_E)} (h : gt_rp sz ks vs o LL) (hs : ∀ l, o ≤ l → l < o + LL.length → sz' l = sz l) (hk : ∀ j, o * 8 ≤ j → j < (o + LL.length) * 8 → ks' j = ks j) (hv : ∀ j, o * 8 ≤ j → j < (o + LL.length) * 8 → vs' j = vs j) : gt_rp sz' ks' vs' o LL := by
  intro l B hl
  have hi := gt_idx hl
  exact gt_lf_keep (h l B hl) (hs _ (by omega) (by omega)) (fun j a b => hk j (by omega) (by omega)) (fun j a b => hv j (by omega) (by omega))
/-- leaf a copied over leaf b -/
def gt_cp (f : Nat → Int32) (a b : Nat) : Nat → Int32 := fun j => if b * 8 ≤ j ∧ j < b * 8 + 8 then f (a * 8 + (j - b * 8)) else f j
theorem gt_cp_in {f : Nat → Int32} {a b i : Nat} (h : i < 8) : gt_cp f a b (b * 8 + i) = f (a * 8 + i) := by
  unfold gt_cp; rw [if_pos ⟨by omega, by omega⟩, show b * 8 + i - b * 8 = i from by omega]
theorem gt_cp_out {f : Nat → Int32} {a b j : Nat} (h : j < b * 8 ∨ b * 8 + 8 ≤ j) : gt_cp f a b j = f j := if_neg (by omega)
theorem gt_cp_lf {sz ks vs : Nat → Int32} {a b : Nat} {B : List gt_E} (h : gt_lf sz ks vs a B) : gt_lf (upd sz b (sz a)) (gt_cp ks a b) (gt_cp vs a b) b B := by
  refine ⟨h.1, pk_us.trans h.2.1, fun i e he => ?_⟩
  have hi := gt_idx he
  have h8 := h.1
  rw [gt_cp_in (by omega), gt_cp_in (by omega)]
  exact h.2.2 i e he
theorem gt_cp_ne {sz ks vs : Nat → Int32} {a b l : Nat} {B : List gt_E} (h : gt_lf sz ks vs l B) (hl : l ≠ b) : gt_lf (upd sz b (sz a)) (gt_cp ks a b) (gt_cp vs a b) l B :=
  gt_lf_keep h (pk_un hl) (fun j x y => gt_cp_out (by omega)) (fun j x y => gt_cp_out (by omega))
theorem gt_cp_rp {sz ks vs : Nat → Int32} {a b o : Nat} {LL : List (List gt_E)} (h : gt_rp sz ks vs o LL) (hl : b < o ∨ o + LL.length ≤ b) : gt_rp (upd sz b (sz a)) (gt_cp ks a b) (gt_cp vs a b) o LL := by
  intro l B hB
  have hi := gt_idx hB
  exact gt_cp_ne (h l B hB) (by omega)
/-- one place to the right: what stood at lo .. hi - 1 stands at lo + 1 .. hi -/
def gt_rs (f : Nat → Int32) (lo hi : Nat) : Nat → Int32 := fun j => if lo < j ∧ j ≤ hi then f (j - 1) else f j
/-- one place to the left: what stood at lo + 1 .. hi stands at lo .. hi - 1 -/
def gt_ls (f : Nat → Int32) (lo hi : Nat) : Nat → Int32 := fun j => if lo ≤ j ∧ j < hi then f (j + 1) else f j
/-- the upper half of a leaf into the lower half of the next one -/
def gt_hf (f : Nat → Int32) (l : Nat) : Nat → Int32 := fun j => if (l + 1) * 8 ≤ j ∧ j < (l + 1) * 8 + 4 then f (j - 4) else f j
theorem gt_ins_lf {sz ks vs : Nat → Int32} {l k : Nat} {v : Int32} {B C : List gt_E} (h : gt_lf sz ks vs l (B ++ C)) (h8 : (B ++ C).length < 8) : gt_lf (upd sz l (sz l + 1)) (upd (gt_rs ks (l * 8 + B.length) (l * 8 + (B ++ C).length)) (l * 8 + B.length) (nI k)) (upd (gt_rs vs (l * 8 + B.length) (l * 8 + (B ++ C).length)) (l * 8 + B.length) v) l (B ++ (k, v) :: C) := by
  have hl : (B ++ C).length = B.length + C.length := List.length_append
  have hl2 : (B ++ (k, v) :: C).length = B.length + C.length + 1 := by rw [List.length_append, List.length_cons]; omega
  refine ⟨by omega, ?_, fun i e he => ?_⟩
  · rw [pk_us, h.2.1, nI_1, hl, hl2]
  · have hi := gt_idx he
    rcases Nat.lt_trichotomy i B.length with z | z | z
    · rw [pk_un (by omega), pk_un (by omega)]
      unfold gt_rs
      rw [if_neg (by omega), if_neg (by omega)]
      refine h.2.2 i e ?_
      rw [List.getElem?_append_left z] at he
      rw [List.getElem?_append_left z]; exact he
    · subst z
      rw [pk_us, pk_us]
      rw [List.getElem?_append_right (Nat.le_refl _), Nat.sub_self] at he
      have e2 : (k, v) = e := Option.some.inj he
      subst e2; exact ⟨rfl, rfl⟩
    · rw [pk_un (by omega), pk_un (by omega)]
      unfold gt_rs
      rw [if_pos (by omega), if_pos (by omega), show l * 8 + i - 1 = l * 8 + (i - 1) from by omega]
      refine h.2.2 (i - 1) e ?_
      rw [List.getElem?_append_right (by omega), show i - B.length = (i - 1 - B.length) + 1 from by omega, List.getElem?_cons_succ] at he
      rw [List.getElem?_append_right (by omega)]; exact he
theorem gt_del_lf {sz ks vs : Nat → Int32} {l : Nat} {c : gt_E} {B C : List gt_E} (h : gt_lf sz ks vs l (B ++ c :: C)) : gt_lf (upd sz l (sz l - 1)) (gt_ls ks (l * 8 + B.length) (l * 8 + (B ++ C).length)) (gt_ls vs (l * 8 + B.length) (l * 8 + (B ++ C).length)) l (B ++ C) := by
  have hl : (B ++ C).length = B.length + C.length := List.length_append
  have hl2 : (B ++ c :: C).length = B.length + C.length + 1 := by rw [List.length_append, List.length_cons]; omega
  have h8 := h.1
  refine ⟨by omega, ?_, fun i e he => ?_⟩
  · rw [pk_us, h.2.1, hl2, nI_pred, hl]
  · have hi := gt_idx he
    rcases Nat.lt_or_ge i B.length with z | z
    · unfold gt_ls
      rw [if_neg (by omega), if_neg (by omega)]
      refine h.2.2 i e ?_
      rw [List.getElem?_append_left z] at he
      rw [List.getElem?_append_left z]; exact he
    · unfold gt_ls
      rw [if_pos (by omega), if_pos (by omega), show l * 8 + i + 1 = l * 8 + (i + 1) from by omega]
      refine h.2.2 (i + 1) e ?_
      rw [List.getElem?_append_right z] at he
      rw [List.getElem?_append_right (by omega), show i + 1 - B.length = (i - B.length) + 1 from by omega, List.getElem?_cons_succ]; exact he
theorem gt_hf_lo {sz ks vs : Nat → Int32} {l : Nat} {B : List gt_E} (h : gt_lf sz ks vs l B) (h8 : B.length = 8) : gt_lf (upd (upd sz l 4) (l + 1) 4) (gt_hf ks l) (gt_hf vs l) l (B.take 4) := by
  have e4 : (B.take 4).length = 4 := by rw [List.length_take]; omega
  refine ⟨by omega, ?_, fun i e he => ?_⟩
  · rw [pk_un (by omega), pk_us, e4]; rfl
  · have hi := gt_idx he
    unfold gt_hf
    rw [if_neg (by omega), if_neg (by omega)]
    refine h.2.2 i e ?_
    rw [List.getElem?_take_of_lt (by omega)] at he; exact he
theorem gt_hf_hi {sz ks vs : Nat → Int32} {l : Nat} {B : List gt_E} (h : gt_lf sz ks vs l B) (h8 : B.length = 8) : gt_lf (upd (upd sz l 4) (l + 1) 4) (gt_hf ks l) (gt_hf vs l) (l + 1) (B.drop 4) := by
  have e4 : (B.drop 4).length = 4 := by rw [List.length_drop]; omega
  refine ⟨by omega, ?_, fun i e he => ?_⟩
  · rw [pk_us, e4]; rfl
  · have hi := gt_idx he
    unfold gt_hf
    rw [if_pos (by omega), if_pos (by omega), show (l + 1) * 8 + i - 4 = l * 8 + (4 + i) from by omega]
    refine h.2.2 (4 + i) e ?_
    rw [List.getElem?_drop] at he; exact he
theorem gt_hf_rp {sz ks vs : Nat → Int32} {l o : Nat} {LL : List (List gt_E)} (h : gt_rp sz ks vs o LL) (hl : o + LL.length ≤ l ∨ l + 2 ≤ o) : gt_rp (upd (upd sz l 4) (l + 1) 4) (gt_hf ks l) (gt_hf vs l) o LL := by
  refine gt_rp_keep h (fun j a b => ?_) (fun j a b => ?_) (fun j a b => ?_)
  · rw [pk_un (by omega), pk_un (by omega)]
  · unfold gt_hf; rw [if_neg (by omega)]
  · unfold gt_hf; rw [if_neg (by omega)]
/-- the shape of the leaves -/
def gt_sh (LL : List (List gt_E)) : Prop := LL ≠ [] ∧ LL.length ≤ 32 ∧ (2 ≤ LL.length → ∀ B, B ∈ LL → B ≠ []) ∧ gt_srt LL.flatten ∧ ∀ e, e ∈ LL.flatten → e.1 < 2097152
end
section
/-! the component's walks: the pointer's keys, searching -/
section
variable {dp lv tt lf sl : Int32} {sb sz ks vs mk mv qk qv : Nat → Int32}
theorem gx_bad {post : Int32 → Prop} {x : Int32} (h0 : ∀ s : Nat, 1 ≤ s → s ≤ 101 → x = gt_sI s → post 0) (h1 : (x < -50 ∨ ¬ x ≤ 50) → post 1) : wpX_bad post x := by
  refine br_c (fun z => h1 (Or.inl z)) (fun z => br_c (fun y => ?_) (fun y => h1 (Or.inr y)))
  obtain ⟨s, a, b, c⟩ := gt_sI_of z y
  exact h0 s a b c
theorem gx_unit {post : Int32 → Prop} {n : Nat} (hn : n < 3) (H : post (nI (gt_un n))) : wpX_unit post (nI n) := by
  unfold wpX_unit
  rw [gt_unit hn]; exact H
/-- the pointer in the component -/
def gx_pt (p : Nat → Nat) (d : Nat) (sb : Nat → Int32) : Prop := ∀ i, i < d → sb i = nI (p i)
theorem gx_keyOf4 {post : Int32 → Prop} {p : Nat → Nat} {n : Nat} (hn : n ≤ 3) (hs : gx_pt p n sb) (H : post (nI (gt_key p n))) : ∀ f i, i ≤ n → n - i < f → wX_keyOf_4 post (nI n) dp lv tt lf sl sb sz ks vs mk mv qk qv f (nI (gt_key p i)) (nI i) := by
  intro f
  induction f with
  | zero => intro i _ h; omega
  | succ f ih =>
    intro i hi hf
    rw [wX_keyOf_4]
    refine pk_le n i (fun z => ?_) (fun z => ?_)
    · have e : i = n := by omega
      subst e; exact H
    · refine ⟨vp_in_nI (by omega) (by omega), gx_unit (by omega) ?_⟩
      rw [nI_clamp (by omega), hs i z]
      exact nm_r (by rw [pk_mul, nI_add]; rfl) (nm_r (nI_1 i) (ih (i + 1) (by omega) (by omega)))
theorem gx_keyOf {post : Int32 → Prop} {p : Nat → Nat} {n : Nat} (hn : n ≤ 3) (hs : gx_pt p n sb) (H : post (nI (gt_key p n))) : wpX_keyOf post (dp, lv, tt, lf, sl, sb, sz, ks, vs, mk, mv, qk, qv) (nI n) :=
  ⟨n + 1, gx_keyOf4 hn hs H (n + 1) 0 (by omega) (by omega)⟩
theorem gx_endOf {post : Int32 → Prop} {p : Nat → Nat} {n : Nat} (hn : n ≤ 3) (hs : gx_pt p n sb) (H : post (nI (gt_end p n))) : wpX_endOf post (dp, lv, tt, lf, sl, sb, sz, ks, vs, mk, mv, qk, qv) (nI n) := by
  refine pk_eq n 0 (fun z => ?_) (fun z => ?_)
  · subst z; exact H
  · refine gx_keyOf hn hs ?_
    obtain ⟨m, rfl⟩ : ∃ m, n = m + 1 := ⟨n - 1, by omega⟩
    rw [nI_pred]
    refine gx_unit (by omega) ?_
    rw [nI_add]
    exact H
theorem gx_subAt {post : Int32 → Prop} {n K : Nat} (hn : n < 3) (hK : K < 2097152) (H : post (gt_sI (gt_dig K n))) : wpX_subscriptAt post (nI K) (nI n) := by
  unfold wpX_subscriptAt
  rw [gt_subAt hn hK]; exact H
theorem gx_m8 {j : Nat} : nI j * 8 = nI (j * 8) := pk_mul j 8
theorem gx_m8c {j : Nat} (hj : j < 32) : (nI j * 8).toNatClampNeg = j * 8 := by rw [gx_m8, nI_clamp (by omega)]
theorem gx_m8in {j : Nat} (hj : j < 32) : vp_in (nI j * 8) 256 := by rw [gx_m8]; exact vp_in_nI (by omega) (by omega)
theorem gx_ad {j s : Nat} : (nI j * 8) + nI s = nI (j * 8 + s) := by rw [gx_m8, nI_add]
theorem gx_adc {j s : Nat} (hj : j < 32) (hs : s < 8) : ((nI j * 8) + nI s).toNatClampNeg = j * 8 + s := by rw [gx_ad, nI_clamp (by omega)]
theorem gx_adin {j s : Nat} (hj : j < 32) (hs : s < 8) : vp_in ((nI j * 8) + nI s) 256 := by rw [gx_ad]; exact vp_in_nI (by omega) (by omega)
theorem gx_seek61 {post : SX → Prop} {j k : Nat} {L0 : List gt_E} (hl : gt_lf sz ks vs j L0) (hj : j < 32) (hk : k < 2 ^ 30) (hm : ∀ e, e ∈ L0 → e.1 < 2097152)
    (H : ∀ B C, L0 = B ++ C → (∀ e, e ∈ B → e.1 < k) → (∀ e, C.head? = some e → k ≤ e.1) → wX_seek_111 post dp lv tt (nI j) (nI B.length) sb sz ks vs mk mv qk qv) :
    ∀ (C B : List gt_E) (n : Nat), L0 = B ++ C → (∀ e, e ∈ B → e.1 < k) → C.length < n → wX_seek_61 post (nI k) dp lv tt (nI j) sb sz ks vs mk mv qk qv n (nI B.length) := by
  intro C
  induction C with
  | nil =>
    intro B n e hB hn
    obtain ⟨m, rfl⟩ : ∃ m, n = m + 1 := ⟨n - 1, by omega⟩
    have el : L0.length = B.length := by rw [e, List.append_nil]
    have h8 := hl.1
    rw [wX_seek_61, nI_clamp (show j < 2 ^ 31 by omega), hl.2.1, el]
    exact ⟨vp_in_nI hj (by omega), br_t (nI_le (Nat.le_refl _) (by omega)) (H B [] e hB (fun e he => by simp at he))⟩
  | cons c C ih =>
    intro B n e hB hn
    rw [List.length_cons] at hn
    obtain ⟨m, rfl⟩ : ∃ m, n = m + 1 := ⟨n - 1, by omega⟩
    have el : L0.length = B.length + C.length + 1 := by rw [e, List.length_append, List.length_cons]; omega
    have h8 := hl.1
    have hc : L0[B.length]? = some c := by rw [e, List.getElem?_append_right (Nat.le_refl _), Nat.sub_self]; rfl
    have hkc := (hl.2.2 B.length c hc).1
    have hcm : c.1 < 2097152 := hm c (by rw [e]; exact List.mem_append_right _ List.mem_cons_self)
    rw [wX_seek_61]
    dsimp only
    rw [nI_clamp (show j < 2 ^ 31 by omega), hl.2.1, gx_adc (s := B.length) hj (by omega), hkc]
    refine ⟨vp_in_nI hj (by omega), br_f (nI_ge (by omega) (by omega)) ⟨gx_adin hj (by omega), ?_⟩⟩
    refine pk_le k c.1 (fun z => H B (c :: C) e hB (fun x hx => ?_)) (fun z => nm_r (nI_1 _) ?_)
    · have q : c = x := Option.some.inj hx
      subst q; exact z
    · have q := ih (B ++ [c]) m (by rw [e, List.append_assoc]; rfl) (fun x hx => ?_) (by omega)
      · rw [List.length_append] at q; exact q
      · rcases List.mem_append.mp hx with y | y
        · exact hB x y
        · rw [List.mem_singleton.mp y]; exact z
theorem gx_seek9 {post : SX → Prop} {N k : Nat} {F : Nat → Nat} (hN : N ≤ 32) (hk : k < 2 ^ 30) (hF : ∀ l, 1 ≤ l → l < N → ks (l * 8) = nI (F l) ∧ F l < 2097152)
    (H : ∀ j, j < N → (j = 0 ∨ F j ≤ k) → (j + 1 < N → k < F (j + 1)) → ∃ n61 : Nat, wX_seek_61 post (nI k) dp lv tt (nI j) sb sz ks vs mk mv qk qv n61 0) :
    ∀ n lo hi, lo ≤ hi → hi < N → hi - lo < n → (lo = 0 ∨ F lo ≤ k) → (hi + 1 < N → k < F (hi + 1)) → wX_seek_9 post (nI k) dp lv tt lf sl sb sz ks vs mk mv qk qv n (nI lo) (nI hi) := by
  intro n
  induction n with
  | zero => intro lo hi _ _ h; omega
  | succ n ih =>
    intro lo hi hlh hhi hn ha hb
    rw [wX_seek_9]
    refine pk_le hi lo (fun z => ?_) (fun z => ?_)
    · have e : lo = hi := by omega
      subst e
      exact H lo hhi ha hb
    · have hf := hF ((lo + hi + 1) / 2) (by omega) (by omega)
      refine ⟨by decide, nm_r (e' := nI ((lo + hi + 1) / 2)) (by rw [nI_add, nI_1]; exact pk_div (a := lo + hi + 1) (d := 2) (by omega) (by omega) (by omega)) ?_⟩
      rw [gx_m8c (j := (lo + hi + 1) / 2) (by omega), hf.1]
      refine ⟨gx_m8in (by omega), ?_⟩
      refine pk_lt k (F ((lo + hi + 1) / 2)) (fun y => ?_) (fun y => ?_)
      · refine nm_r (e' := nI ((lo + hi + 1) / 2 - 1)) (pk_sub (b := 1) (by omega)) ?_
        refine ih lo ((lo + hi + 1) / 2 - 1) (by omega) (by omega) (by omega) ha (fun _ => ?_)
        rw [show (lo + hi + 1) / 2 - 1 + 1 = (lo + hi + 1) / 2 from by omega]; exact y
      · exact ih ((lo + hi + 1) / 2) hi (by omega) hhi (by omega) (Or.inr y) hb
/-- where a search for k ends: in front of C -/
def gt_sk (LL : List (List gt_E)) (k : Nat) (A : List (List gt_E)) (B C : List gt_E) (D : List (List gt_E)) : Prop :=
  LL = A ++ (B ++ C) :: D ∧ (∀ e, e ∈ A.flatten ++ B → e.1 < k) ∧ (∀ e, e ∈ C ++ D.flatten → k ≤ e.1) ∧ (C = [] → D = [])
theorem gt_at {α : Type} {l : List α} {j : Nat} (h : j < l.length) : ∃ A a D, l = A ++ a :: D ∧ A.length = j :=
  ⟨l.take j, l[j], l.drop (j + 1), by rw [← List.drop_eq_getElem_cons h, List.take_append_drop], by rw [List.length_take]; omega⟩
def gt_hd (LL : List (List gt_E)) (l : Nat) : Nat := ((((LL[l]?).getD []).head?).map Prod.fst).getD 0
theorem gt_hd_mid {A D : List (List gt_E)} {e : gt_E} {B : List gt_E} : gt_hd (A ++ (e :: B) :: D) A.length = e.1 := by
  unfold gt_hd
  rw [List.getElem?_append_right (Nat.le_refl _), Nat.sub_self]; rfl
theorem gx_seek {post : SX → Prop} {LL : List (List gt_E)} {k : Nat} (hsh : gt_sh LL) (hrp : gt_rp sz ks vs 0 LL) (hlv : lv = nI LL.length) (hk : k < 2 ^ 30)
    (H : ∀ A B C D, gt_sk LL k A B C D → post (dp, lv, tt, nI A.length, nI B.length, sb, sz, ks, vs, mk, mv, qk, qv)) : wpX_seek post (dp, lv, tt, lf, sl, sb, sz, ks, vs, mk, mv, qk, qv) (nI k) := by
  obtain ⟨hne, h32, hnon, hsrt, hlim⟩ := hsh
  subst hlv
  have hpos : 0 < LL.length := List.length_pos_iff.mpr hne
  have hF : ∀ l, 1 ≤ l → l < LL.length → ks (l * 8) = nI (gt_hd LL l) ∧ gt_hd LL l < 2097152 := by
    intro l h1 h2
    obtain ⟨A, L0, D, e, ea⟩ := gt_at h2
    have hL0 : L0 ≠ [] := hnon (by omega) L0 (by rw [e]; exact List.mem_append_right _ List.mem_cons_self)
    obtain ⟨e0, B0, rfl⟩ : ∃ e0 B0, L0 = e0 :: B0 := List.exists_cons_of_ne_nil hL0
    have hd : gt_hd LL l = e0.1 := by rw [e, ← ea]; exact gt_hd_mid
    have hlf := (gt_rp_cons.mp (gt_rp_app.mp (e ▸ hrp)).2).1
    have h0 := (hlf.2.2 0 e0 rfl).1
    rw [ea, Nat.zero_add, Nat.add_zero] at h0
    rw [hd]
    exact ⟨h0, hlim e0 (by rw [e, List.flatten_append]; exact List.mem_append_right _ (by rw [List.flatten_cons]; exact List.mem_append_left _ List.mem_cons_self))⟩
  refine nm_r (e' := nI (LL.length - 1)) (pk_sub (b := 1) (by omega)) ⟨LL.length + 1, ?_⟩
  refine gx_seek9 (F := gt_hd LL) h32 hk hF (fun j hj ha hb => ?_) (LL.length + 1) 0 (LL.length - 1) (by omega) (by omega) (by omega) (Or.inl rfl) (fun z => by omega)
  obtain ⟨A, L0, D, e, ea⟩ := gt_at hj
  have hrp2 := gt_rp_app.mp (e ▸ hrp)
  have hrp3 := gt_rp_cons.mp hrp2.2
  have hlf := hrp3.1
  rw [Nat.zero_add, ea] at hlf
  have hfl : LL.flatten = A.flatten ++ (L0 ++ D.flatten) := by rw [e, List.flatten_append, List.flatten_cons]
  rw [hfl] at hsrt hlim
  have hs1 := gt_srt_app.mp hsrt
  have hs2 := gt_srt_app.mp hs1.2.1
  have hlen : LL.length = j + 1 + D.length := by rw [e, List.length_append, List.length_cons]; omega
  have hA : ∀ x, x ∈ A.flatten → x.1 < k := by
    intro x hx
    rcases ha with ha | ha
    · have e0 : A = [] := List.eq_nil_of_length_eq_zero (by omega)
      rw [e0] at hx; simp at hx
    · rcases Nat.eq_zero_or_pos j with z | z
      · have e0 : A = [] := List.eq_nil_of_length_eq_zero (by omega)
        rw [e0] at hx; simp at hx
      · have hL0 : L0 ≠ [] := hnon (by omega) L0 (by rw [e]; exact List.mem_append_right _ List.mem_cons_self)
        obtain ⟨e0, B0, rfl⟩ : ∃ e0 B0, L0 = e0 :: B0 := List.exists_cons_of_ne_nil hL0
        have hd : gt_hd LL j = e0.1 := by rw [e, ← ea]; exact gt_hd_mid
        have := hs1.2.2 x hx e0 (List.mem_append_left _ List.mem_cons_self)
        omega
  have hD : ∀ x, x ∈ D.flatten → k ≤ x.1 := by
    intro x hx
    rcases D with _ | ⟨L1, D'⟩
    · simp at hx
    · have hL1 : L1 ≠ [] := hnon (by rw [List.length_cons] at hlen; omega) L1 (by rw [e]; exact List.mem_append_right _ (List.mem_cons_of_mem _ List.mem_cons_self))
      obtain ⟨e1, B1, rfl⟩ : ∃ e1 B1, L1 = e1 :: B1 := List.exists_cons_of_ne_nil hL1
      have hd : gt_hd LL (j + 1) = e1.1 := by
        rw [e, show j + 1 = (A ++ [L0]).length from by rw [List.length_append, ea]; rfl, show A ++ L0 :: (e1 :: B1) :: D' = (A ++ [L0]) ++ (e1 :: B1) :: D' from by rw [List.append_assoc]; rfl]
        exact gt_hd_mid
      have hb2 := hb (by rw [List.length_cons] at hlen; omega)
      rw [List.flatten_cons, List.cons_append] at hx hs2
      rcases List.mem_cons.mp hx with q | q
      · rw [q]; omega
      · have := (List.pairwise_cons.mp hs2.2.1).1 x q
        omega
  refine ⟨L0.length + 1, gx_seek61 (L0 := L0) hlf (by omega) hk (fun x hx => hlim x (List.mem_append_right _ (List.mem_append_left _ hx))) (fun B C eL hB hC => ?_) L0 [] (L0.length + 1) rfl (fun x hx => by simp at hx) (by omega)⟩
  have h8 := hlf.1
  have hCD : ∀ x, x ∈ C ++ D.flatten → k ≤ x.1 := by
    intro x hx
    rcases List.mem_append.mp hx with q | q
    · rcases C with _ | ⟨c, C'⟩
      · simp at q
      · have hc := hC c rfl
        rcases List.mem_cons.mp q with y | y
        · rw [y]; exact hc
        · rw [eL] at hs2
          have := (List.pairwise_cons.mp (gt_srt_app.mp hs2.1).2.1).1 x y
          omega
    · exact hD x q
  have hAB : ∀ x, x ∈ A.flatten ++ B → x.1 < k := by
    intro x hx
    rcases List.mem_append.mp hx with q | q
    · exact hA x q
    · exact hB x q
  unfold wX_seek_111
  rw [nI_clamp (show j < 2 ^ 31 by omega), hlf.2.1]
  have hBC : L0.length = B.length + C.length := by rw [eL, List.length_append]
  refine ⟨vp_in_nI (by omega) (by omega), pk_eq B.length L0.length (fun z => ?_) (fun z => ?_)⟩
  · have hC0 : C = [] := List.eq_nil_of_length_eq_zero (by omega)
    rw [nI_1]
    refine pk_le LL.length (j + 1) (fun y => ?_) (fun y => ?_)
    · have hD0 : D = [] := List.eq_nil_of_length_eq_zero (by omega)
      have q := H A B C D ⟨by rw [e, eL], hAB, hCD, fun _ => hD0⟩
      rw [ea] at q; exact q
    · rcases D with _ | ⟨L1, D'⟩
      · rw [List.length_nil] at hlen; omega
      · refine nm_e ?_
        have q := H (A ++ [L0]) [] L1 D' ⟨by rw [e, List.append_assoc]; rfl, ?_, ?_, ?_⟩
        · rw [List.length_append, ea] at q; exact q
        · intro x hx
          rw [List.append_nil, List.flatten_append, List.flatten_cons, List.flatten_nil, List.append_nil, eL, hC0, List.append_nil] at hx
          exact hAB x hx
        · intro x hx
          rw [hC0] at hCD
          exact hCD x hx
        · intro z1
          exact absurd z1 (hnon (by rw [List.length_cons] at hlen; omega) L1 (by rw [e]; exact List.mem_append_right _ (List.mem_cons_of_mem _ List.mem_cons_self)))
  · have q := H A B C D ⟨by rw [e, eL], hAB, hCD, fun z1 => ?_⟩
    · rw [ea] at q; exact q
    · rw [z1, List.length_nil] at hBC; omega
end
end
section
section
variable {dp lv tt lf sl : Int32} {sb sz ks vs mk mv qk qv : Nat → Int32}
theorem gt_rp_mid {A D : List (List gt_E)} {L0 : List gt_E} (h : gt_rp sz ks vs 0 (A ++ L0 :: D)) : gt_lf sz ks vs A.length L0 := by
  have := (gt_rp_cons.mp (gt_rp_app.mp h).2).1
  rw [Nat.zero_add] at this; exact this
theorem gt_lf_mid {l : Nat} {B C : List gt_E} {c : gt_E} (h : gt_lf sz ks vs l (B ++ c :: C)) : B.length < 8 ∧ ks (l * 8 + B.length) = nI c.1 ∧ vs (l * 8 + B.length) = c.2 := by
  refine ⟨?_, h.2.2 B.length c (by rw [List.getElem?_append_right (Nat.le_refl _), Nat.sub_self]; rfl)⟩
  have := h.1
  rw [List.length_append, List.length_cons] at this; omega
theorem gx_found {post : Int32 → Prop} {A D : List (List gt_E)} {B C : List gt_E} (hrp : gt_rp sz ks vs 0 (A ++ (B ++ C) :: D)) (hA : A.length < 32) (H0 : C = [] → post 2097152) (H1 : ∀ c C', C = c :: C' → post (nI c.1)) : wpX_found post (dp, lv, tt, nI A.length, nI B.length, sb, sz, ks, vs, mk, mv, qk, qv) := by
  have hlf := gt_rp_mid hrp
  have h8 := hlf.1
  show vp_in (nI A.length) 32 ∧ _
  rw [nI_clamp (show A.length < 2 ^ 31 by omega), hlf.2.1]
  rw [List.length_append] at h8
  rw [List.length_append]
  refine ⟨vp_in_nI hA (by omega), pk_le (B.length + C.length) B.length (fun z => H0 (List.eq_nil_of_length_eq_zero (by omega))) (fun z => ?_)⟩
  rcases C with _ | ⟨c, C'⟩
  · rw [List.length_nil] at z; omega
  · have hm := gt_lf_mid hlf
    rw [gx_adc (s := B.length) hA hm.1, hm.2.1]
    exact ⟨gx_adin hA hm.1, H1 c C' rfl⟩
theorem gt_sk_lim {LL A D : List (List gt_E)} {B C : List gt_E} {k : Nat} (h : gt_sk LL k A B C D) : LL.flatten = (A.flatten ++ B) ++ (C ++ D.flatten) ∧ LL.length = A.length + 1 + D.length := by
  rw [h.1]
  refine ⟨?_, ?_⟩
  · rw [List.flatten_append, List.flatten_cons, List.append_assoc, List.append_assoc]
  · rw [List.length_append, List.length_cons]; omega
theorem gx_present {post : Int32 → SX → Prop} {LL : List (List gt_E)} {k : Nat} (hsh : gt_sh LL) (hrp : gt_rp sz ks vs 0 LL) (hlv : lv = nI LL.length) (hk : k < 2097152)
    (H0 : ∀ A B C D, gt_sk LL k A B C D → (∀ e, e ∈ LL.flatten → e.1 ≠ k) → post 0 (dp, lv, tt, nI A.length, nI B.length, sb, sz, ks, vs, mk, mv, qk, qv))
    (H1 : ∀ A B v C D, gt_sk LL k A B ((k, v) :: C) D → post 1 (dp, lv, tt, nI A.length, nI B.length, sb, sz, ks, vs, mk, mv, qk, qv)) : wpX_present post (dp, lv, tt, lf, sl, sb, sz, ks, vs, mk, mv, qk, qv) (nI k) := by
  unfold wpX_present
  refine gx_seek hsh hrp hlv (by omega) (fun A B C D hs => ?_)
  have hl := (gt_sk_lim hs).2
  have h32 := hsh.2.1
  refine gx_found (D := D) (C := C) (hs.1 ▸ hrp) (by omega) (fun z => ?_) (fun c C' z => ?_)
  · subst z
    have hD := hs.2.2.2 rfl
    subst hD
    refine pk_eq 2097152 k (fun z => by omega) (fun z => H0 A B [] [] hs (fun e he => ?_))
    rw [(gt_sk_lim hs).1] at he
    rcases List.mem_append.mp he with q | q
    · have := hs.2.1 e q; omega
    · simp at q
  · subst z
    have hc : c.1 < 2097152 := hsh.2.2.2.2 c (by rw [(gt_sk_lim hs).1]; exact List.mem_append_right _ (List.mem_append_left _ List.mem_cons_self))
    refine pk_eq c.1 k (fun z => ?_) (fun z => H0 A B (c :: C') D hs (fun e he => ?_))
    · obtain ⟨c1, c2⟩ := c
      subst z
      exact H1 A B c2 C' D hs
    · have hsrt := hsh.2.2.2.1
      rw [(gt_sk_lim hs).1] at he hsrt
      rcases List.mem_append.mp he with q | q
      · have := hs.2.1 e q; omega
      · have hck := hs.2.2.1 c (List.mem_append_left _ List.mem_cons_self)
        have hp := (gt_srt_app.mp hsrt).2.1
        rw [List.cons_append] at hp q
        rcases List.mem_cons.mp q with y | y
        · rw [y]; exact z
        · have := (List.pairwise_cons.mp hp).1 e y
          omega
theorem gt_last {α : Type} {l : List α} (h : l ≠ []) : ∃ P a, l = P ++ [a] := ⟨l.dropLast, l.getLast h, (List.dropLast_concat_getLast h).symm⟩
theorem gx_keyBefore {post : Int32 → SX → Prop} {LL : List (List gt_E)} {k : Nat} (hsh : gt_sh LL) (hrp : gt_rp sz ks vs 0 LL) (hlv : lv = nI LL.length) (hk : k < 2097152)
    (H0 : ∀ lf sl : Int32, (∀ e, e ∈ LL.flatten → k ≤ e.1) → post (-1) (dp, lv, tt, lf, sl, sb, sz, ks, vs, mk, mv, qk, qv))
    (H1 : ∀ (lf sl : Int32) P e S, LL.flatten = P ++ e :: S → e.1 < k → (∀ x, x ∈ S → k ≤ x.1) → post (nI e.1) (dp, lv, tt, lf, sl, sb, sz, ks, vs, mk, mv, qk, qv)) : wpX_keyBefore post (dp, lv, tt, lf, sl, sb, sz, ks, vs, mk, mv, qk, qv) (nI k) := by
  unfold wpX_keyBefore
  refine gx_seek hsh hrp hlv (by omega) (fun A B C D hs => ?_)
  have ⟨hf, hl⟩ := gt_sk_lim hs
  have h32 := hsh.2.1
  have hr := hs.1 ▸ hrp
  have hlf := gt_rp_mid hr
  have h8 := hlf.1
  rw [List.length_append] at h8
  show (_ → _) ∧ (_ → _)
  refine pk_le B.length 0 (fun z => ?_) (fun z => ?_)
  · have hB : B = [] := List.eq_nil_of_length_eq_zero (by omega)
    subst hB
    refine pk_eq A.length 0 (fun y => H0 _ _ (fun e he => ?_)) (fun y => ?_)
    · have hA : A = [] := List.eq_nil_of_length_eq_zero y
      subst hA
      rw [hf] at he
      exact hs.2.2.1 e he
    · obtain ⟨A', L1, rfl⟩ := gt_last (l := A) (fun q => y (by rw [q]; rfl))
      have hla : (A' ++ [L1]).length = A'.length + 1 := by rw [List.length_append]; rfl
      rw [hla] at hl
      have hL1 : L1 ≠ [] := hsh.2.2.1 (by omega) L1 (by rw [hs.1]; exact List.mem_append_left _ (List.mem_append_right _ List.mem_cons_self))
      obtain ⟨B', e, rfl⟩ := gt_last hL1
      have hr2 : gt_rp sz ks vs 0 (A' ++ (B' ++ [e]) :: (([] ++ C) :: D)) := by
        rw [List.append_assoc] at hr; exact hr
      have hlf2 := gt_rp_mid hr2
      have hm := gt_lf_mid hlf2
      have hbl : (B' ++ [e]).length = B'.length + 1 := by rw [List.length_append]; rfl
      rw [hla, nI_pred, nI_clamp (show A'.length < 2 ^ 31 by omega), hlf2.2.1, hbl, gx_ad, show A'.length * 8 + (B'.length + 1) = (A'.length * 8 + B'.length) + 1 from by omega, nI_pred, nI_clamp (by omega), hm.2.1]
      refine ⟨vp_in_nI (by omega) (by omega), vp_in_nI (by omega) (by omega), ?_⟩
      refine H1 _ _ (A'.flatten ++ B') e (C ++ D.flatten) ?_ (hs.2.1 e ?_) hs.2.2.1
      · rw [hf, List.flatten_append, List.flatten_cons, List.flatten_nil]
        simp
      · rw [List.flatten_append, List.flatten_cons, List.flatten_nil]; simp
  · obtain ⟨B', e, rfl⟩ := gt_last (l := B) (fun q => by rw [q, List.length_nil] at z; omega)
    have hbl : (B' ++ [e]).length = B'.length + 1 := by rw [List.length_append]; rfl
    have hlf2 : gt_lf sz ks vs A.length (B' ++ e :: C) := by rw [List.append_assoc] at hlf; exact hlf
    have hm := gt_lf_mid hlf2
    rw [hbl, gx_ad, show A.length * 8 + (B'.length + 1) = (A.length * 8 + B'.length) + 1 from by omega, nI_pred, nI_clamp (by omega), hm.2.1]
    refine ⟨vp_in_nI (by omega) (by omega), ?_⟩
    refine H1 _ _ (A.flatten ++ B') e (C ++ D.flatten) ?_ (hs.2.1 e ?_) hs.2.2.1
    · rw [hf]; simp
    · simp
end
end
section
/-! copying and splitting leaves -/
section
variable {dp lv tt lf sl : Int32} {sb sz ks vs mk mv qk qv : Nat → Int32}
def gt_cpi (f : Nat → Int32) (a b i : Nat) : Nat → Int32 := fun j => if b * 8 ≤ j ∧ j < b * 8 + i then f (a * 8 + (j - b * 8)) else f j
theorem gt_cpi_0 {f : Nat → Int32} {a b : Nat} : gt_cpi f a b 0 = f := funext (fun j => if_neg (by omega))
theorem gt_cpi_s {f : Nat → Int32} {a b i : Nat} (h : a ≠ b) (hi : i < 8) : upd (gt_cpi f a b i) (b * 8 + i) (gt_cpi f a b i (a * 8 + i)) = gt_cpi f a b (i + 1) := by
  funext j
  by_cases h1 : j = b * 8 + i
  · subst h1
    rw [pk_us]
    unfold gt_cpi
    rw [if_neg (by omega), if_pos (by omega), show b * 8 + i - b * 8 = i from by omega]
  · rw [pk_un h1]
    unfold gt_cpi
    by_cases h2 : b * 8 ≤ j ∧ j < b * 8 + i
    · rw [if_pos h2, if_pos (by omega)]
    · rw [if_neg h2, if_neg (by omega)]
theorem gx_copy14 {post : SX → Prop} {a b : Nat} (ha : a < 32) (hb : b < 32) (hab : a ≠ b) (H : post (dp, lv, tt, lf, sl, sb, sz, gt_cp ks a b, gt_cp vs a b, mk, mv, qk, qv)) : ∀ f i, i ≤ 8 → 8 - i < f → wX_copyLeaf_14 post (nI a) (nI b) dp lv tt lf sl f (nI i) sb sz (gt_cpi ks a b i) (gt_cpi vs a b i) mk mv qk qv := by
  intro f
  induction f with
  | zero => intro i _ h; omega
  | succ f ih =>
    intro i hi hf
    rw [wX_copyLeaf_14]
    refine pk_le 8 i (fun z => ?_) (fun z => ?_)
    · have e : i = 8 := by omega
      subst e; exact H
    · rw [gx_adc (s := i) ha z, gx_adc (s := i) hb z]
      exact ⟨gx_adin ha z, gx_adin hb z, nm_r (gt_cpi_s hab z) ⟨gx_adin ha z, gx_adin hb z, nm_r (gt_cpi_s hab z) (nm_r (nI_1 i) (ih (i + 1) (by omega) (by omega)))⟩⟩
theorem gx_copyLeaf {post : SX → Prop} {a b : Nat} (ha : a < 32) (hb : b < 32) (hab : a ≠ b) (H : post (dp, lv, tt, lf, sl, sb, upd sz b (sz a), gt_cp ks a b, gt_cp vs a b, mk, mv, qk, qv)) : wpX_copyLeaf post (dp, lv, tt, lf, sl, sb, sz, ks, vs, mk, mv, qk, qv) (nI a) (nI b) := by
  show vp_in (nI a) 32 ∧ vp_in (nI b) 32 ∧ _
  rw [nI_clamp (show a < 2 ^ 31 by omega), nI_clamp (show b < 2 ^ 31 by omega)]
  refine ⟨vp_in_nI ha (by omega), vp_in_nI hb (by omega), nm_e ⟨9, ?_⟩⟩
  have q := gx_copy14 (post := post) (dp := dp) (lv := lv) (tt := tt) (lf := lf) (sl := sl) (sb := sb) (sz := upd sz b (sz a)) (ks := ks) (vs := vs) (mk := mk) (mv := mv) (qk := qk) (qv := qv) ha hb hab H 9 0 (by omega) (by omega)
  rw [gt_cpi_0, gt_cpi_0] at q
  exact q
def gt_hfi (f : Nat → Int32) (l i : Nat) : Nat → Int32 := fun j => if (l + 1) * 8 ≤ j ∧ j < (l + 1) * 8 + i then f (j - 4) else f j
theorem gt_hfi_0 {f : Nat → Int32} {l : Nat} : gt_hfi f l 0 = f := funext (fun j => if_neg (by omega))
theorem gt_hfi_s {f : Nat → Int32} {l i : Nat} (hi : i < 4) : upd (gt_hfi f l i) ((l + 1) * 8 + i) (gt_hfi f l i (l * 8 + i + 4)) = gt_hfi f l (i + 1) := by
  funext j
  by_cases h1 : j = (l + 1) * 8 + i
  · subst h1
    rw [pk_us]
    unfold gt_hfi
    rw [if_neg (by omega), if_pos (by omega), show (l + 1) * 8 + i - 4 = l * 8 + i + 4 from by omega]
  · rw [pk_un h1]
    unfold gt_hfi
    by_cases h2 : (l + 1) * 8 ≤ j ∧ j < (l + 1) * 8 + i
    · rw [if_pos h2, if_pos (by omega)]
    · rw [if_neg h2, if_neg (by omega)]
theorem gx_split62 {post : SX → Prop} {l : Nat} (hl : l < 31) (H : post (dp, lv, tt, lf, sl, sb, sz, gt_hf ks l, gt_hf vs l, mk, mv, qk, qv)) : ∀ f i, i ≤ 4 → 4 - i < f → wX_splitLeaf_62 post (nI l) dp lv tt lf sl f (nI i) sb sz (gt_hfi ks l i) (gt_hfi vs l i) mk mv qk qv := by
  intro f
  induction f with
  | zero => intro i _ h; omega
  | succ f ih =>
    intro i hi hf
    rw [wX_splitLeaf_62]
    refine pk_le 4 i (fun z => ?_) (fun z => ?_)
    · have e : i = 4 := by omega
      subst e; exact H
    · have e1 : ((nI l * 8) + nI i) + 4 = nI (l * 8 + i + 4) := by rw [gx_ad]; exact nI_add _ 4
      have e2 : ((nI l + 1) * 8) + nI i = nI ((l + 1) * 8 + i) := by rw [nI_1, gx_ad]
      rw [e1, e2, nI_clamp (by omega), nI_clamp (by omega)]
      have v1 : vp_in (nI (l * 8 + i + 4)) 256 := vp_in_nI (by omega) (by omega)
      have v2 : vp_in (nI ((l + 1) * 8 + i)) 256 := vp_in_nI (by omega) (by omega)
      exact ⟨v1, v2, nm_r (gt_hfi_s z) ⟨v1, v2, nm_r (gt_hfi_s z) (nm_r (nI_1 i) (ih (i + 1) (by omega) (by omega)))⟩⟩
theorem gt_take_s {α : Type} {l : List α} {c : Nat} (h : c < l.length) : ∃ a, l.take (c + 1) = l.take c ++ [a] ∧ l.drop c = a :: l.drop (c + 1) :=
  ⟨l[c], List.take_succ_eq_append_getElem h, List.drop_eq_getElem_cons h⟩
theorem gx_split5 {post : SX → Prop} {l N : Nat} {A D : List (List gt_E)} {L0 : List gt_E} (hA : A.length = l) (hN : N = l + 1 + D.length) (hN31 : N ≤ 31) (hL0 : L0.length = 8)
    (H : ∀ sz ks vs : Nat → Int32, gt_rp sz ks vs 0 (A ++ L0.take 4 :: L0.drop 4 :: D) → post (dp, nI (N + 1), tt, lf, sl, sb, sz, ks, vs, mk, mv, qk, qv)) :
    ∀ (c k f : Nat) (sz ks vs : Nat → Int32), k = l + 1 + c → c ≤ D.length → c < f → gt_rp sz ks vs 0 A → gt_lf sz ks vs l L0 → gt_rp sz ks vs (l + 1) (D.take c) → gt_rp sz ks vs (l + 2 + c) (D.drop c) → wX_splitLeaf_5 post (nI l) f (nI k) dp (nI N) tt lf sl sb sz ks vs mk mv qk qv := by
  intro c
  induction c with
  | zero =>
    intro k f sz ks vs hk _ hf rA rL _ rD
    obtain ⟨f, rfl⟩ : ∃ g, f = g + 1 := ⟨f - 1, by omega⟩
    rw [wX_splitLeaf_5, nI_1 l]
    refine br_t (nI_le (by omega) (by omega)) (nm_r (nI_1 N) (gx_copyLeaf (by omega) (by omega) (by omega) ?_))
    show vp_in (nI l) 32 ∧ _
    rw [nI_clamp (show l < 2 ^ 31 by omega), nI_clamp (show l + 1 < 2 ^ 31 by omega)]
    refine ⟨vp_in_nI (by omega) (by omega), nm_e ⟨vp_in_nI (by omega) (by omega), nm_e ⟨5, ?_⟩⟩⟩
    have rA2 : gt_rp (upd sz (l + 1) (sz l)) (gt_cp ks l (l + 1)) (gt_cp vs l (l + 1)) 0 A := gt_cp_rp rA (Or.inr (by omega))
    have rL2 : gt_lf (upd sz (l + 1) (sz l)) (gt_cp ks l (l + 1)) (gt_cp vs l (l + 1)) l L0 := gt_cp_ne rL (by omega)
    have rD2 : gt_rp (upd sz (l + 1) (sz l)) (gt_cp ks l (l + 1)) (gt_cp vs l (l + 1)) (l + 2) D := by
      rw [List.drop_zero] at rD
      exact gt_cp_rp rD (Or.inl (by omega))
    have q := gx_split62 (post := post) (dp := dp) (lv := nI (N + 1)) (tt := tt) (lf := lf) (sl := sl) (sb := sb) (sz := upd (upd (upd sz (l + 1) (sz l)) l 4) (l + 1) 4) (ks := gt_cp ks l (l + 1)) (vs := gt_cp vs l (l + 1)) (mk := mk) (mv := mv) (qk := qk) (qv := qv) (l := l) (by omega) (H _ _ _ (gt_rp_app.mpr ⟨gt_hf_rp rA2 (Or.inl (by omega)), ?_⟩)) 5 0 (by omega) (by omega)
    · rw [gt_hfi_0, gt_hfi_0] at q
      exact q
    · rw [Nat.zero_add, hA]
      exact gt_rp_cons.mpr ⟨gt_hf_lo rL2 hL0, gt_rp_cons.mpr ⟨gt_hf_hi rL2 hL0, gt_hf_rp rD2 (Or.inr (by omega))⟩⟩
  | succ c ih =>
    intro k f sz ks vs hk hc hf rA rL rT rD
    obtain ⟨f, rfl⟩ : ∃ g, f = g + 1 := ⟨f - 1, by omega⟩
    obtain ⟨k, rfl⟩ : ∃ g, k = g + 1 := ⟨k - 1, by omega⟩
    obtain ⟨a, e1, e2⟩ := gt_take_s (l := D) (c := c) (by omega)
    rw [e1] at rT
    have rT2 := gt_rp_app.mp rT
    have hlen : (D.take c).length = c := by rw [List.length_take]; omega
    rw [hlen] at rT2
    have ra := (gt_rp_cons.mp rT2.2).1
    have hkl : l + 1 + c = k := by omega
    rw [hkl] at ra
    rw [wX_splitLeaf_5, nI_1 l]
    refine br_f (nI_ge (by omega) (by omega)) ?_
    rw [nI_pred]
    refine gx_copyLeaf (by omega) (by omega) (by omega) ?_
    refine nm_r (pk_m1 k) ?_
    refine ih k f _ _ _ (by omega) (by omega) (by omega) (gt_cp_rp rA (Or.inr (by omega))) (gt_cp_ne rL (by omega)) (gt_cp_rp rT2.1 (Or.inr (by omega))) ?_
    rw [e2, show l + 2 + c = k + 1 from by omega]
    refine gt_rp_cons.mpr ⟨gt_cp_lf ra, ?_⟩
    rw [show l + 2 + (c + 1) = k + 1 + 1 from by omega] at rD
    exact gt_cp_rp rD (Or.inl (by omega))
theorem gx_splitLeaf {post : SX → Prop} {N : Nat} {A D : List (List gt_E)} {L0 : List gt_E} (hN : N = A.length + 1 + D.length) (hN31 : N ≤ 31) (hL0 : L0.length = 8) (hr : gt_rp sz ks vs 0 (A ++ L0 :: D))
    (H : ∀ sz ks vs : Nat → Int32, gt_rp sz ks vs 0 (A ++ L0.take 4 :: L0.drop 4 :: D) → post (dp, nI (N + 1), tt, lf, sl, sb, sz, ks, vs, mk, mv, qk, qv)) : wpX_splitLeaf post (dp, nI N, tt, lf, sl, sb, sz, ks, vs, mk, mv, qk, qv) (nI A.length) := by
  have h1 := gt_rp_app.mp hr
  rw [Nat.zero_add] at h1
  have h2 := gt_rp_cons.mp h1.2
  refine ⟨D.length + 1, gx_split5 rfl hN hN31 hL0 H D.length N (D.length + 1) sz ks vs (by omega) (Nat.le_refl _) (by omega) h1.1 h2.1 ?_ ?_⟩
  · rw [List.take_length]; exact h2.2
  · rw [List.drop_length]; exact gt_rp_nil
end
end
section
/-! repacking: all keys into leaves of six -/
section
variable {dp lv tt lf sl : Int32} {sb sz ks vs mk mv qk qv : Nat → Int32}
def gt_ch : Nat → List gt_E → List (List gt_E)
  | 0, _ => []
  | m + 1, L => L.take 6 :: gt_ch m (L.drop 6)
theorem gt_ch_len : ∀ (m : Nat) (L : List gt_E), (gt_ch m L).length = m
  | 0, _ => rfl
  | m + 1, L => by unfold gt_ch; rw [List.length_cons, gt_ch_len m]
theorem gt_ch_get : ∀ (m : Nat) (L : List gt_E) (l : Nat), l < m → (gt_ch m L)[l]? = some ((L.drop (6 * l)).take 6)
  | 0, _, l, h => by omega
  | m + 1, L, 0, _ => rfl
  | m + 1, L, l + 1, h => by
    unfold gt_ch
    rw [List.getElem?_cons_succ, gt_ch_get m _ l (by omega), List.drop_drop, show 6 + 6 * l = 6 * (l + 1) from by omega]
theorem gt_ch_flat : ∀ (m : Nat) (L : List gt_E), L.length ≤ 6 * m → (gt_ch m L).flatten = L
  | 0, L, h => by
    have e : L = [] := List.eq_nil_of_length_eq_zero (by omega)
    subst e; rfl
  | m + 1, L, h => by
    unfold gt_ch
    rw [List.flatten_cons, gt_ch_flat m _ (by rw [List.length_drop]; omega), List.take_append_drop]
theorem gt_ch_non {m : Nat} {L : List gt_E} (h : 6 * m < L.length + 6) : ∀ B, B ∈ gt_ch m L → B ≠ [] := by
  intro B hB z
  obtain ⟨l, hl⟩ := List.mem_iff_getElem?.mp hB
  have hlm := gt_idx hl
  rw [gt_ch_len] at hlm
  rw [gt_ch_get m L l hlm] at hl
  have e := Option.some.inj hl
  rw [z] at e
  have e2 := congrArg List.length e
  rw [List.length_take, List.length_drop, List.length_nil] at e2
  omega
/-- the packed arrays hold the list P -/
def gt_pk (qk qv : Nat → Int32) (P : List gt_E) : Prop := ∀ i e, P[i]? = some e → qk i = nI e.1 ∧ qv i = e.2
theorem gt_pk_nil : gt_pk qk qv [] := fun i e h => by simp at h
theorem gt_pk_s {P : List gt_E} {c : gt_E} (h : gt_pk qk qv P) : gt_pk (upd qk P.length (nI c.1)) (upd qv P.length c.2) (P ++ [c]) := by
  intro i e he
  have hi := gt_idx he
  rw [List.length_append] at hi
  have hi2 : i < P.length + 1 := hi
  by_cases z : i = P.length
  · subst z
    rw [List.getElem?_append_right (Nat.le_refl _), Nat.sub_self] at he
    have e2 : c = e := Option.some.inj he
    subst e2
    rw [pk_us, pk_us]; exact ⟨rfl, rfl⟩
  · rw [pk_un z, pk_un z]
    rw [List.getElem?_append_left (by omega)] at he
    exact h i e he
theorem gx_repack14 {post : SX → Prop} {J4 : Int32 → Int32 → (Nat → Int32) → (Nat → Int32) → (Nat → Int32) → (Nat → Int32) → (Nat → Int32) → (Nat → Int32) → (Nat → Int32) → (Nat → Int32) → Prop} {l : Nat} {P L0 : List gt_E} (hl : gt_lf sz ks vs l L0) (hl32 : l < 32) (h60 : (P ++ L0).length ≤ 60)
    (H : ∀ qk qv : Nat → Int32, gt_pk qk qv (P ++ L0) → J4 (nI (P ++ L0).length) (nI (l + 1)) sb sz ks vs mk mv qk qv) :
    ∀ (C B : List gt_E) (f : Nat) (qk qv : Nat → Int32), L0 = B ++ C → C.length < f → gt_pk qk qv (P ++ B) → wX_repack_14 post J4 (nI l) dp lv tt lf sl f (nI (P ++ B).length) (nI B.length) sb sz ks vs mk mv qk qv := by
  intro C
  induction C with
  | nil =>
    intro B f qk qv e hf hq
    obtain ⟨f, rfl⟩ : ∃ g, f = g + 1 := ⟨f - 1, by omega⟩
    rw [List.append_nil] at e
    subst e
    have h8 := hl.1
    rw [wX_repack_14]
    dsimp only
    rw [nI_clamp (show l < 2 ^ 31 by omega), hl.2.1]
    exact ⟨vp_in_nI hl32 (by omega), br_t (nI_le (Nat.le_refl _) (by omega)) (nm_r (nI_1 l) (H qk qv hq))⟩
  | cons c C ih =>
    intro B f qk qv e hf hq
    rw [List.length_cons] at hf
    obtain ⟨f, rfl⟩ : ∃ g, f = g + 1 := ⟨f - 1, by omega⟩
    have el : L0.length = B.length + C.length + 1 := by rw [e, List.length_append, List.length_cons]; omega
    have h8 := hl.1
    have hm := gt_lf_mid (e ▸ hl)
    have hpl : (P ++ B).length = P.length + B.length := List.length_append
    have hpl2 : (P ++ L0).length = P.length + L0.length := List.length_append
    rw [wX_repack_14]
    dsimp only
    rw [nI_clamp (show l < 2 ^ 31 by omega), hl.2.1, gx_adc (s := B.length) hl32 hm.1, nI_clamp (show (P ++ B).length < 2 ^ 31 by omega), hm.2.1, hm.2.2]
    have v1 : vp_in ((nI l * 8) + nI B.length) 256 := gx_adin hl32 hm.1
    have v2 : vp_in (nI (P ++ B).length) 60 := vp_in_nI (by omega) (by omega)
    refine ⟨vp_in_nI hl32 (by omega), br_f (nI_ge (by omega) (by omega)) ⟨v1, v2, nm_e ⟨v1, v2, nm_e (nm_r (nI_1 _) (nm_r (nI_1 _) ?_))⟩⟩⟩
    have q := ih (B ++ [c]) f (upd qk (P ++ B).length (nI c.1)) (upd qv (P ++ B).length c.2) (by rw [e, List.append_assoc]; rfl) (by omega) (by rw [← List.append_assoc]; exact gt_pk_s hq)
    rw [show (P ++ (B ++ [c])).length = (P ++ B).length + 1 from by rw [← List.append_assoc, List.length_append]; rfl, show (B ++ [c]).length = B.length + 1 from by rw [List.length_append]; rfl] at q
    exact q
theorem gx_repack4 {post : SX → Prop} {LL : List (List gt_E)} (hr : gt_rp sz ks vs 0 LL) (h32 : LL.length ≤ 32) (h60 : LL.flatten.length ≤ 60) (hn : 0 < LL.flatten.length)
    (H : ∀ qk qv : Nat → Int32, gt_pk qk qv LL.flatten → ∃ n93 : Nat, wX_repack_93 post (nI LL.flatten.length) dp (nI ((LL.flatten.length + 5) / 6)) tt lf sl n93 0 sb sz ks vs mk mv qk qv) :
    ∀ (D A : List (List gt_E)) (f : Nat) (qk qv : Nat → Int32), LL = A ++ D → D.length < f → gt_pk qk qv A.flatten → wX_repack_4 post dp (nI LL.length) tt lf sl f (nI A.flatten.length) (nI A.length) sb sz ks vs mk mv qk qv := by
  intro D
  induction D with
  | nil =>
    intro A f qk qv e hf hq
    obtain ⟨f, rfl⟩ : ∃ g, f = g + 1 := ⟨f - 1, by omega⟩
    rw [List.append_nil] at e
    subst e
    rw [wX_repack_4]
    dsimp only
    refine br_t (nI_le (Nat.le_refl _) (by omega)) (br_f (nI_ne0 hn (by omega)) ⟨by decide, nm_r (e' := nI ((LL.flatten.length + 5) / 6)) ?_ (H qk qv hq)⟩)
    rw [show nI LL.flatten.length + 5 = nI (LL.flatten.length + 5) from nI_add _ 5]
    exact pk_div (a := LL.flatten.length + 5) (d := 6) (by omega) (by omega) (by omega)
  | cons L0 D ih =>
    intro A f qk qv e hf hq
    rw [List.length_cons] at hf
    obtain ⟨f, rfl⟩ : ∃ g, f = g + 1 := ⟨f - 1, by omega⟩
    have hlen : LL.length = A.length + D.length + 1 := by rw [e, List.length_append, List.length_cons]; omega
    have hlf := gt_rp_mid (e ▸ hr)
    have hfl : LL.flatten.length = (A.flatten ++ L0).length + D.flatten.length := by rw [e, List.flatten_append, List.flatten_cons, ← List.append_assoc, List.length_append]
    rw [wX_repack_4]
    dsimp only
    refine br_f (nI_ge (by omega) (by omega)) ⟨L0.length + 1, ?_⟩
    have q := gx_repack14 (post := post) (dp := dp) (lv := nI LL.length) (tt := tt) (lf := lf) (sl := sl) (sb := sb) (mk := mk) (mv := mv) (J4 := wX_repack_4 post dp (nI LL.length) tt lf sl f) (P := A.flatten) hlf (by omega) (by omega) (fun qk qv hq => ?_) L0 [] (L0.length + 1) qk qv rfl (by omega) (by rw [List.append_nil]; exact hq)
    · rw [List.append_nil] at q
      exact q
    · have q := ih (A ++ [L0]) f qk qv (by rw [e, List.append_assoc]; rfl) (by omega) (by rw [List.flatten_append, List.flatten_cons, List.flatten_nil, List.append_nil]; exact hq)
      rw [List.flatten_append, List.flatten_cons, List.flatten_nil, List.append_nil, show (A ++ [L0]).length = A.length + 1 from by rw [List.length_append]; rfl] at q
      exact q
def gt_z (f : Nat → Int32) (i : Nat) : Nat → Int32 := fun j => if j < i then 0 else f j
theorem gt_z_0 {f : Nat → Int32} : gt_z f 0 = f := funext (fun j => if_neg (by omega))
theorem gt_z_s {f : Nat → Int32} {i : Nat} : upd (gt_z f i) i 0 = gt_z f (i + 1) := by
  funext j
  by_cases h1 : j = i
  · subst h1; rw [pk_us]; unfold gt_z; rw [if_pos (by omega)]
  · rw [pk_un h1]; unfold gt_z
    by_cases h2 : j < i
    · rw [if_pos h2, if_pos (by omega)]
    · rw [if_neg h2, if_neg (by omega)]
theorem gx_repack93 {post : SX → Prop} {x1 : Int32} {N : Nat} (hN : N ≤ 32) (H : ∃ n116 : Nat, wX_repack_116 post x1 dp (nI N) tt lf sl n116 0 sb (gt_z sz N) ks vs mk mv qk qv) : ∀ f i, i ≤ N → N - i < f → wX_repack_93 post x1 dp (nI N) tt lf sl f (nI i) sb (gt_z sz i) ks vs mk mv qk qv := by
  intro f
  induction f with
  | zero => intro i _ h; omega
  | succ f ih =>
    intro i hi hf
    rw [wX_repack_93]
    dsimp only
    refine pk_le N i (fun z => ?_) (fun z => ?_)
    · have e : i = N := by omega
      subst e; exact H
    · rw [nI_clamp (show i < 2 ^ 31 by omega)]
      exact ⟨vp_in_nI (by omega) (by omega), nm_r gt_z_s (nm_r (nI_1 i) (ih (i + 1) (by omega) (by omega)))⟩
/-- the first i keys lie in leaves of six -/
def gt_six (L : List gt_E) (N i : Nat) (sz ks vs : Nat → Int32) : Prop := ∀ l, l < N → sz l = nI (min 6 (i - 6 * l)) ∧ ∀ m e, m < 6 → 6 * l + m < i → L[6 * l + m]? = some e → ks (l * 8 + m) = nI e.1 ∧ vs (l * 8 + m) = e.2
theorem gt_six_0 {L : List gt_E} {N : Nat} : gt_six L N 0 (gt_z sz N) ks vs := by
  intro l hl
  refine ⟨?_, fun m e _ h => by omega⟩
  unfold gt_z; rw [if_pos hl, show min 6 (0 - 6 * l) = 0 from by omega]; rfl
theorem gt_six_s {L : List gt_E} {N i : Nat} {e : gt_E} (h : gt_six L N i sz ks vs) (he : L[i]? = some e) (hN : i / 6 < N) : gt_six L N (i + 1) (upd sz (i / 6) (sz (i / 6) + 1)) (upd ks (i / 6 * 8 + i % 6) (nI e.1)) (upd vs (i / 6 * 8 + i % 6) e.2) := by
  intro l hl
  refine ⟨?_, fun m x hm hi hx => ?_⟩
  · by_cases z : l = i / 6
    · subst z
      rw [pk_us, (h _ hl).1, nI_1]
      exact congrArg nI (by omega)
    · rw [pk_un z, (h _ hl).1]
      exact congrArg nI (by omega)
  · by_cases z : 6 * l + m = i
    · have e1 : l = i / 6 := by omega
      have e2 : m = i % 6 := by omega
      rw [z, he] at hx
      have e3 : e = x := Option.some.inj hx
      subst e1 e2 e3
      rw [pk_us, pk_us]; exact ⟨rfl, rfl⟩
    · rw [pk_un (by omega), pk_un (by omega)]
      exact (h l hl).2 m x hm (by omega) hx
theorem gt_six_rp {L : List gt_E} {N : Nat} (h : gt_six L N L.length sz ks vs) : gt_rp sz ks vs 0 (gt_ch N L) := by
  intro l B hl
  have hN := gt_idx hl
  rw [gt_ch_len] at hN
  rw [gt_ch_get N L l hN] at hl
  have e := Option.some.inj hl
  subst e
  have q := h l hN
  have hle : ((L.drop (6 * l)).take 6).length = min 6 (L.length - 6 * l) := by rw [List.length_take, List.length_drop]
  refine ⟨by omega, ?_, fun m x hx => ?_⟩
  · rw [Nat.zero_add, q.1, hle]
  · have hm := gt_idx hx
    rw [hle] at hm
    rw [Nat.zero_add]
    rw [List.getElem?_take_of_lt (by omega), List.getElem?_drop] at hx
    exact q.2 m x (by omega) (by omega) hx
theorem gx_repack116 {post : SX → Prop} {L : List gt_E} {N : Nat} (hN : N ≤ 32) (h60 : L.length ≤ 60) (hL : L.length ≤ 6 * N) (hq : gt_pk qk qv L)
    (H : ∀ sz ks vs : Nat → Int32, gt_six L N L.length sz ks vs → post (dp, nI N, tt, lf, sl, sb, sz, ks, vs, mk, mv, qk, qv)) : ∀ (f i : Nat) (sz ks vs : Nat → Int32), i ≤ L.length → L.length - i < f → gt_six L N i sz ks vs → wX_repack_116 post (nI L.length) dp (nI N) tt lf sl f (nI i) sb sz ks vs mk mv qk qv := by
  intro f
  induction f with
  | zero => intro i _ _ _ _ h; omega
  | succ f ih =>
    intro i sz ks vs hi hf h6
    rw [wX_repack_116]
    dsimp only
    refine pk_le L.length i (fun z => ?_) (fun z => ?_)
    · have e : i = L.length := by omega
      subst e; exact H _ _ _ h6
    · obtain ⟨e, he⟩ : ∃ e, L[i]? = some e := ⟨L[i], List.getElem?_eq_getElem z⟩
      have hqe := hq i e he
      have e1 : nI i / 6 = nI (i / 6) := pk_div (a := i) (d := 6) (by omega) (by omega) (by omega)
      have e2 : nI i - nI i / 6 * 6 = nI (i % 6) := pk_rem (a := i) (d := 6) (by omega) (by omega) (by omega)
      rw [e2, e1, gx_ad]
      refine ⟨by decide, by decide, nm_e ?_⟩
      rw [nI_clamp (show i < 2 ^ 31 by omega), nI_clamp (show i / 6 * 8 + i % 6 < 2 ^ 31 by omega), nI_clamp (show i / 6 < 2 ^ 31 by omega), hqe.1, hqe.2]
      have v1 : vp_in (nI i) 60 := vp_in_nI (by omega) (by omega)
      have v2 : vp_in (nI (i / 6 * 8 + i % 6)) 256 := vp_in_nI (by omega) (by omega)
      have v3 : vp_in (nI (i / 6)) 32 := vp_in_nI (by omega) (by omega)
      exact ⟨v1, v2, nm_e ⟨v1, v2, nm_e ⟨by decide, v3, v3, nm_e (nm_r (nI_1 i) (ih (i + 1) _ _ _ (by omega) (by omega) (gt_six_s h6 he (by omega))))⟩⟩⟩
theorem gx_repack {post : SX → Prop} {LL : List (List gt_E)} (hsh : gt_sh LL) (hrp : gt_rp sz ks vs 0 LL) (hlv : lv = nI LL.length) (h60 : LL.flatten.length ≤ 60) (h2 : 2 ≤ LL.length)
    (H : ∀ (LL' : List (List gt_E)) (sz ks vs qk qv : Nat → Int32), gt_sh LL' → LL'.flatten = LL.flatten → LL'.length < 32 → gt_rp sz ks vs 0 LL' → post (dp, nI LL'.length, tt, lf, sl, sb, sz, ks, vs, mk, mv, qk, qv)) : wpX_repack post (dp, lv, tt, lf, sl, sb, sz, ks, vs, mk, mv, qk, qv) := by
  subst hlv
  have hn : 0 < LL.flatten.length := by
    obtain ⟨A, L0, D, e, ea⟩ := gt_at (l := LL) (j := 0) (by omega)
    have hL0 : L0 ≠ [] := hsh.2.2.1 h2 L0 (by rw [e]; exact List.mem_append_right _ List.mem_cons_self)
    have := List.length_pos_iff.mpr hL0
    rw [e, List.flatten_append, List.flatten_cons, List.length_append, List.length_append]; omega
  refine ⟨LL.length + 1, gx_repack4 hrp hsh.2.1 h60 hn (fun qk qv hq => ?_) LL [] (LL.length + 1) qk qv rfl (by omega) gt_pk_nil⟩
  refine ⟨(LL.flatten.length + 5) / 6 + 1, ?_⟩
  have q := gx_repack93 (post := post) (dp := dp) (tt := tt) (lf := lf) (sl := sl) (sb := sb) (sz := sz) (ks := ks) (vs := vs) (mk := mk) (mv := mv) (qk := qk) (qv := qv) (x1 := nI LL.flatten.length) (N := (LL.flatten.length + 5) / 6) (by omega) ⟨LL.flatten.length + 1, ?_⟩ ((LL.flatten.length + 5) / 6 + 1) 0 (by omega) (by omega)
  · rw [gt_z_0] at q; exact q
  · refine gx_repack116 (L := LL.flatten) (N := (LL.flatten.length + 5) / 6) (by omega) h60 (by omega) hq (fun sz ks vs h6 => ?_) (LL.flatten.length + 1) 0 _ _ _ (by omega) (by omega) gt_six_0
    have q := H (gt_ch ((LL.flatten.length + 5) / 6) LL.flatten) sz ks vs qk qv ?_ (gt_ch_flat _ _ (by omega)) (by rw [gt_ch_len]; omega) (gt_six_rp h6)
    · rw [gt_ch_len] at q; exact q
    · refine ⟨?_, by rw [gt_ch_len]; omega, fun _ => gt_ch_non (by omega), ?_, ?_⟩
      · intro z
        have := congrArg List.length z
        rw [gt_ch_len, List.length_nil] at this; omega
      · rw [gt_ch_flat _ _ (by omega)]; exact hsh.2.2.2.1
      · rw [gt_ch_flat _ _ (by omega)]; exact hsh.2.2.2.2
end
end
section
/-! room for a key, and its insertion -/
section
variable {dp lv tt lf sl : Int32} {sb sz ks vs mk mv qk qv : Nat → Int32}
/-- the place in front of C, between the keys below k and those above it -/
def gt_pl (LL : List (List gt_E)) (k : Nat) (A : List (List gt_E)) (B C : List gt_E) (D : List (List gt_E)) : Prop :=
  LL = A ++ (B ++ C) :: D ∧ (∀ e, e ∈ A.flatten ++ B → e.1 < k) ∧ (∀ e, e ∈ C ++ D.flatten → k < e.1)
theorem gt_pl_lim {LL A D : List (List gt_E)} {B C : List gt_E} {k : Nat} (h : gt_pl LL k A B C D) : LL.flatten = (A.flatten ++ B) ++ (C ++ D.flatten) ∧ LL.length = A.length + 1 + D.length := by
  rw [h.1]
  refine ⟨?_, ?_⟩
  · rw [List.flatten_append, List.flatten_cons, List.append_assoc, List.append_assoc]
  · rw [List.length_append, List.length_cons]; omega
theorem gx_room55 {post : SX → Prop} {LL A D : List (List gt_E)} {B C : List gt_E} {k : Nat} (hsh : gt_sh LL) (hrp : gt_rp sz ks vs 0 LL) (h31 : LL.length ≤ 31) (hp : gt_pl LL k A B C D)
    (H : ∀ (LL' A B C D) (sz ks vs : Nat → Int32), gt_sh LL' → LL'.flatten = LL.flatten → gt_rp sz ks vs 0 LL' → gt_pl LL' k A B C D → (B ++ C).length < 8 → post (dp, nI LL'.length, tt, nI A.length, nI B.length, sb, sz, ks, vs, mk, mv, qk, qv)) :
    wX_seekRoom_55 post dp (nI LL.length) tt (nI A.length) (nI B.length) sb sz ks vs mk mv qk qv := by
  have ⟨hf, hl⟩ := gt_pl_lim hp
  have hr := hp.1 ▸ hrp
  have hlf := gt_rp_mid hr
  have h8 := hlf.1
  unfold wX_seekRoom_55
  rw [nI_clamp (show A.length < 2 ^ 31 by omega), hlf.2.1]
  refine ⟨vp_in_nI (by omega) (by omega), pk_le 8 (B ++ C).length (fun z => ?_) (fun z => ?_)⟩
  · have e8 : (B ++ C).length = 8 := by omega
    have e8' := e8
    rw [List.length_append] at e8'
    refine gx_splitLeaf (D := D) hl h31 e8 hr (fun sz ks vs hr2 => ?_)
    have hcut : (A ++ (B ++ C).take 4 :: (B ++ C).drop 4 :: D).flatten = LL.flatten := by
      rw [hp.1, List.flatten_append, List.flatten_append, List.flatten_cons, List.flatten_cons, List.flatten_cons, ← List.append_assoc ((B ++ C).take 4), List.take_append_drop]
    have hl2 : (A ++ (B ++ C).take 4 :: (B ++ C).drop 4 :: D).length = LL.length + 1 := by
      rw [List.length_append, List.length_cons, List.length_cons]; omega
    have hsh2 : gt_sh (A ++ (B ++ C).take 4 :: (B ++ C).drop 4 :: D) := by
      refine ⟨by simp, by omega, fun _ X hX => ?_, by rw [hcut]; exact hsh.2.2.2.1, by rw [hcut]; exact hsh.2.2.2.2⟩
      rcases List.mem_append.mp hX with q | q
      · have := List.length_pos_of_mem q
        exact hsh.2.2.1 (by omega) X (by rw [hp.1]; exact List.mem_append_left _ q)
      · rcases List.mem_cons.mp q with q | q
        · intro y; rw [y] at q
          have := congrArg List.length q
          rw [List.length_take, List.length_nil] at this; omega
        · rcases List.mem_cons.mp q with q | q
          · intro y; rw [y] at q
            have := congrArg List.length q
            rw [List.length_drop, List.length_nil] at this; omega
          · have := List.length_pos_of_mem q
            exact hsh.2.2.1 (by omega) X (by rw [hp.1]; exact List.mem_append_right _ (List.mem_cons_of_mem _ q))
    refine pk_le B.length 4 (fun y => ?_) (fun y => ?_)
    · have et : (B ++ C).take 4 = B ++ C.take (4 - B.length) := by
        rw [List.take_append, List.take_of_length_le y]
      have ed : (B ++ C).drop 4 = C.drop (4 - B.length) := by
        rw [List.drop_append, List.drop_of_length_le y, List.nil_append]
      have q := H (A ++ (B ++ C).take 4 :: (B ++ C).drop 4 :: D) A B (C.take (4 - B.length)) ((B ++ C).drop 4 :: D) sz ks vs hsh2 hcut hr2 ⟨by rw [et], hp.2.1, ?_⟩ ?_
      · rw [hl2] at q; exact q
      · intro e he
        rw [List.flatten_cons, ed, ← List.append_assoc, List.take_append_drop] at he
        exact hp.2.2 e he
      · rw [← et, List.length_take]; omega
    · have et : (B ++ C).take 4 = B.take 4 := by
        rw [List.take_append, show 4 - B.length = 0 from by omega, List.take_zero, List.append_nil]
      have ed : (B ++ C).drop 4 = B.drop 4 ++ C := by
        rw [List.drop_append, show 4 - B.length = 0 from by omega, List.drop_zero]
      refine nm_r (e' := nI (B.length - 4)) (pk_sub (b := 4) (by omega)) (nm_r (nI_1 _) ?_)
      have q := H (A ++ (B ++ C).take 4 :: (B ++ C).drop 4 :: D) (A ++ [(B ++ C).take 4]) (B.drop 4) C D sz ks vs hsh2 hcut hr2 ⟨by rw [← ed, List.append_assoc]; rfl, ?_, hp.2.2⟩ ?_
      · rw [hl2, List.length_append, List.length_drop] at q; exact q
      · intro e he
        rw [List.flatten_append, List.flatten_cons, List.flatten_nil, List.append_nil, et, List.append_assoc, List.take_append_drop] at he
        exact hp.2.1 e he
      · rw [← ed, List.length_drop]; omega
  · exact H LL A B C D sz ks vs hsh rfl hrp hp z
theorem gx_room13 {post : SX → Prop} {LL : List (List gt_E)} {k : Nat} (hsh : gt_sh LL) (hrp : gt_rp sz ks vs 0 LL) (h31 : LL.length ≤ 31) (hk : k < 2097152) (hne : ∀ e, e ∈ LL.flatten → e.1 ≠ k)
    (H : ∀ (LL' A B C D) (sz ks vs : Nat → Int32), gt_sh LL' → LL'.flatten = LL.flatten → gt_rp sz ks vs 0 LL' → gt_pl LL' k A B C D → (B ++ C).length < 8 → post (dp, nI LL'.length, tt, nI A.length, nI B.length, sb, sz, ks, vs, mk, mv, qk, qv)) :
    wX_seekRoom_13 post (nI k) dp (nI LL.length) tt lf sl sb sz ks vs mk mv qk qv := by
  unfold wX_seekRoom_13
  refine gx_seek hsh hrp rfl (by omega) (fun A B C D hs => ?_)
  have ⟨hf, hl⟩ := gt_sk_lim hs
  have hpl : gt_pl LL k A B C D := ⟨hs.1, hs.2.1, fun e he => by
    have h1 := hs.2.2.1 e he
    have h2 := hne e (by rw [hf]; exact List.mem_append_right _ he)
    omega⟩
  show (_ → _) ∧ (_ → _)
  have hlf := gt_rp_mid (hs.1 ▸ hrp)
  have h8 := hlf.1
  rw [List.length_append] at h8
  refine pk_eq B.length 0 (fun z => ?_) (fun z => gx_room55 hsh hrp h31 hpl H)
  have hB : B = [] := List.eq_nil_of_length_eq_zero z
  subst hB
  refine pk_le A.length 0 (fun y => gx_room55 hsh hrp h31 hpl H) (fun y => ?_)
  obtain ⟨A', L1, rfl⟩ := gt_last (l := A) (fun q => by rw [q, List.length_nil] at y; omega)
  have hla : (A' ++ [L1]).length = A'.length + 1 := by rw [List.length_append]; rfl
  have eLL : LL = A' ++ (L1 ++ []) :: ((C :: D)) := by rw [hs.1, List.append_assoc, List.append_nil]; rfl
  have hlf2 := gt_rp_mid (eLL ▸ hrp)
  rw [List.append_nil] at hlf2
  rw [hla, nI_pred]
  refine nm_e ⟨vp_in_nI (by omega) (by omega), ?_⟩
  rw [nI_clamp (show A'.length < 2 ^ 31 by omega), hlf2.2.1]
  refine nm_e (gx_room55 hsh hrp h31 (C := []) (D := C :: D) ⟨eLL, ?_, ?_⟩ H)
  · intro e he
    refine hs.2.1 e ?_
    rw [List.flatten_append, List.flatten_cons, List.flatten_nil, List.append_nil, List.append_nil]; exact he
  · intro e he
    exact hpl.2.2 e he
theorem gx_seekRoom {post : SX → Prop} {LL : List (List gt_E)} {k : Nat} (hsh : gt_sh LL) (hrp : gt_rp sz ks vs 0 LL) (hlv : lv = nI LL.length) (h60 : LL.flatten.length ≤ 60) (hk : k < 2097152) (hne : ∀ e, e ∈ LL.flatten → e.1 ≠ k)
    (H : ∀ (LL' A B C D) (sz ks vs qk qv : Nat → Int32), gt_sh LL' → LL'.flatten = LL.flatten → gt_rp sz ks vs 0 LL' → gt_pl LL' k A B C D → (B ++ C).length < 8 → post (dp, nI LL'.length, tt, nI A.length, nI B.length, sb, sz, ks, vs, mk, mv, qk, qv)) :
    wpX_seekRoom post (dp, lv, tt, lf, sl, sb, sz, ks, vs, mk, mv, qk, qv) (nI k) := by
  subst hlv
  have h32 := hsh.2.1
  refine pk_lt LL.length 32 (fun z => ?_) (fun z => ?_)
  · exact gx_room13 hsh hrp (by omega) hk hne (fun LL' A B C D sz ks vs => H LL' A B C D sz ks vs qk qv)
  · refine gx_repack hsh hrp rfl h60 (by omega) (fun LL' sz ks vs qk qv hsh' hfl h31 hrp' => ?_)
    refine gx_room13 hsh' hrp' (by omega) hk (by rw [hfl]; exact hne) (fun LL2 A B C D sz ks vs a b => ?_)
    rw [hfl] at b
    exact H LL2 A B C D sz ks vs qk qv a b
theorem gt_rs_s {f : Nat → Int32} {lo i hi : Nat} (h : lo ≤ i) (hi2 : i < hi) : upd (gt_rs f (i + 1) hi) (i + 1) (gt_rs f (i + 1) hi i) = gt_rs f i hi := by
  funext j
  by_cases h1 : j = i + 1
  · subst h1
    rw [pk_us]
    unfold gt_rs
    rw [if_neg (by omega), if_pos (by omega)]; rfl
  · rw [pk_un h1]
    unfold gt_rs
    by_cases h2 : i + 1 < j ∧ j ≤ hi
    · rw [if_pos h2, if_pos (by omega)]
    · rw [if_neg h2, if_neg (by omega)]
theorem gt_rs_0 {f : Nat → Int32} {hi : Nat} : gt_rs f hi hi = f := funext (fun j => if_neg (by omega))
theorem gx_insert15 {post : SX → Prop} {l s z T : Nat} {k v : Int32} (hl : l < 32) (hz : z < 8)
    (H : post (dp, lv, nI (T + 1), nI l, nI s, sb, upd sz l (sz l + 1), upd (gt_rs ks (l * 8 + s) (l * 8 + z)) (l * 8 + s) k, upd (gt_rs vs (l * 8 + s) (l * 8 + z)) (l * 8 + s) v, mk, mv, qk, qv)) :
    ∀ f i, s ≤ i → i ≤ z → i - s < f → wX_insert_15 post k v dp lv (nI T) (nI l) (nI s) f (nI i) sb sz (gt_rs ks (l * 8 + i) (l * 8 + z)) (gt_rs vs (l * 8 + i) (l * 8 + z)) mk mv qk qv := by
  intro f
  induction f with
  | zero => intro i _ _ h; omega
  | succ f ih =>
    intro i hs hi hf
    rw [wX_insert_15]
    dsimp only
    refine pk_le i s (fun y => ?_) (fun y => ?_)
    · have e : i = s := by omega
      subst e
      rw [gx_adc (s := i) hl (by omega), nI_clamp (show l < 2 ^ 31 by omega)]
      have v1 : vp_in ((nI l * 8) + nI i) 256 := gx_adin hl (by omega)
      have v2 : vp_in (nI l) 32 := vp_in_nI hl (by omega)
      exact ⟨v1, nm_e ⟨v1, nm_e ⟨v2, v2, nm_e (nm_r (nI_1 T) H)⟩⟩⟩
    · obtain ⟨i, rfl⟩ : ∃ g, i = g + 1 := ⟨i - 1, by omega⟩
      have e1 : ((nI l * 8) + nI (i + 1)) - 1 = nI (l * 8 + i) := by rw [gx_ad, show l * 8 + (i + 1) = (l * 8 + i) + 1 from by omega, nI_pred]
      rw [e1, gx_adc (s := i + 1) hl (by omega), nI_clamp (show l * 8 + i < 2 ^ 31 by omega)]
      have v1 : vp_in ((nI l * 8) + nI (i + 1)) 256 := gx_adin hl (by omega)
      have v2 : vp_in (nI (l * 8 + i)) 256 := vp_in_nI (by omega) (by omega)
      refine ⟨v2, v1, nm_r (gt_rs_s (lo := 0) (i := l * 8 + i) (by omega) (by omega)) ⟨v2, v1, nm_r (gt_rs_s (lo := 0) (i := l * 8 + i) (by omega) (by omega)) (nm_r (pk_m1 i) (ih i (by omega) (by omega) (by omega)))⟩⟩
/-- the component's leaves hold the nodes of LL -/
def gt_X (LL : List (List gt_E)) (lv tt : Int32) (sz ks vs : Nat → Int32) : Prop :=
  gt_sh LL ∧ gt_rp sz ks vs 0 LL ∧ lv = nI LL.length ∧ tt = nI LL.flatten.length ∧ LL.flatten.length ≤ 60
theorem gx_insert {post : SX → Prop} {LL : List (List gt_E)} {k : Nat} {v : Int32} (hX : gt_X LL lv tt sz ks vs) (h60 : LL.flatten.length < 60) (hk : k < 2097152) (hne : ∀ e, e ∈ LL.flatten → e.1 ≠ k)
    (H : ∀ (LL' : List (List gt_E)) (lv tt lf sl : Int32) (sz ks vs qk qv : Nat → Int32), gt_X LL' lv tt sz ks vs → List.Perm LL'.flatten ((k, v) :: LL.flatten) → post (dp, lv, tt, lf, sl, sb, sz, ks, vs, mk, mv, qk, qv)) : wpX_insert post (dp, lv, tt, lf, sl, sb, sz, ks, vs, mk, mv, qk, qv) (nI k) v := by
  obtain ⟨hsh, hrp, hlv, htt, _⟩ := hX
  subst htt
  unfold wpX_insert
  refine gx_seekRoom hsh hrp hlv (by omega) hk hne (fun LL' A B C D sz ks vs qk qv hsh' hfl hrp' hpl h8 => ?_)
  have ⟨hf, hl⟩ := gt_pl_lim hpl
  have h32 := hsh'.2.1
  have hr := hpl.1 ▸ hrp'
  have hlf := gt_rp_mid hr
  have hbc : (B ++ C).length = B.length + C.length := List.length_append
  show vp_in (nI A.length) 32 ∧ _
  rw [nI_clamp (show A.length < 2 ^ 31 by omega), hlf.2.1]
  refine ⟨vp_in_nI (by omega) (by omega), nm_e ⟨8, ?_⟩⟩
  have q := gx_insert15 (post := post) (dp := dp) (lv := nI LL'.length) (sb := sb) (sz := sz) (ks := ks) (vs := vs) (mk := mk) (mv := mv) (qk := qk) (qv := qv) (l := A.length) (s := B.length) (z := (B ++ C).length) (T := LL.flatten.length) (k := nI k) (v := v) (by omega) h8 ?_ 8 (B ++ C).length (by omega) (Nat.le_refl _) (by omega)
  · rw [gt_rs_0, gt_rs_0] at q; exact q
  · have hfl2 : (A ++ (B ++ (k, v) :: C) :: D).flatten = (A.flatten ++ B) ++ (k, v) :: (C ++ D.flatten) := by
      rw [List.flatten_append, List.flatten_cons, List.append_assoc, List.append_assoc]; rfl
    have hperm : List.Perm (A ++ (B ++ (k, v) :: C) :: D).flatten ((k, v) :: LL.flatten) := by
      rw [hfl2, ← hfl, hf]; exact List.perm_middle
    have hlen : (A ++ (B ++ (k, v) :: C) :: D).length = LL'.length := by
      rw [List.length_append, List.length_cons]; omega
    refine H (A ++ (B ++ (k, v) :: C) :: D) _ _ _ _ _ _ _ qk qv ⟨⟨by simp, by omega, ?_, ?_, ?_⟩, ?_, by rw [hlen], ?_, ?_⟩ hperm
    · intro h2 X hX
      rcases List.mem_append.mp hX with y | y
      · exact hsh'.2.2.1 (by omega) X (by rw [hpl.1]; exact List.mem_append_left _ y)
      · rcases List.mem_cons.mp y with y | y
        · rw [y]; simp
        · exact hsh'.2.2.1 (by omega) X (by rw [hpl.1]; exact List.mem_append_right _ (List.mem_cons_of_mem _ y))
    · rw [hfl2]
      refine gt_srt_ins ?_ hpl.2.1 hpl.2.2
      rw [← hf]; exact hsh'.2.2.2.1
    · intro e he
      rcases List.mem_cons.mp (hperm.mem_iff.mp he) with y | y
      · rw [y]; exact hk
      · exact hsh.2.2.2.2 e y
    · have h1 := gt_rp_app.mp hr
      have h2 := gt_rp_cons.mp h1.2
      rw [Nat.zero_add] at h2
      have e0 : (B ++ C).length < 8 := h8
      refine gt_rp_app.mpr ⟨gt_rp_keep h1.1 (fun j a b => pk_un (by omega)) (fun j a b => ?_) (fun j a b => ?_), ?_⟩
      · rw [pk_un (by omega)]; exact if_neg (by omega)
      · rw [pk_un (by omega)]; exact if_neg (by omega)
      · rw [Nat.zero_add]
        refine gt_rp_cons.mpr ⟨gt_ins_lf h2.1 h8, gt_rp_keep h2.2 (fun j a b => pk_un (by omega)) (fun j a b => ?_) (fun j a b => ?_)⟩
        · rw [pk_un (by omega)]; exact if_neg (by omega)
        · rw [pk_un (by omega)]; exact if_neg (by omega)
    · rw [hperm.length_eq, List.length_cons]
    · rw [hperm.length_eq, List.length_cons]; omega
end
end
section
/-! taking a key out; putting one in -/
section
variable {dp lv tt lf sl : Int32} {sb sz ks vs mk mv qk qv : Nat → Int32}
theorem gt_ls_s {f : Nat → Int32} {lo i : Nat} (h : lo ≤ i) : upd (gt_ls f lo i) i (gt_ls f lo i (i + 1)) = gt_ls f lo (i + 1) := by
  funext j
  by_cases h1 : j = i
  · subst h1
    rw [pk_us]
    unfold gt_ls
    rw [if_neg (by omega), if_pos (by omega)]
  · rw [pk_un h1]
    unfold gt_ls
    by_cases h2 : lo ≤ j ∧ j < i
    · rw [if_pos h2, if_pos (by omega)]
    · rw [if_neg h2, if_neg (by omega)]
theorem gt_ls_0 {f : Nat → Int32} {lo : Nat} : gt_ls f lo lo = f := funext (fun j => if_neg (by omega))
theorem gx_rem133 {post : SX → Prop} {l N : Nat} {A D : List (List gt_E)} (hA : A.length = l) (hN : N = l + 1 + D.length) (hN32 : N ≤ 32)
    (H : ∀ sz ks vs : Nat → Int32, gt_rp sz ks vs 0 (A ++ D) → post (dp, nI (N - 1), tt, lf, sl, sb, sz, ks, vs, mk, mv, qk, qv)) :
    ∀ (D2 D1 : List (List gt_E)) (f : Nat) (sz ks vs : Nat → Int32), D = D1 ++ D2 → D2.length < f → gt_rp sz ks vs 0 A → gt_rp sz ks vs l D1 → gt_rp sz ks vs (l + D1.length + 1) D2 → wX_removeFound_133 post f (nI (l + D1.length)) dp (nI N) tt lf sl sb sz ks vs mk mv qk qv := by
  intro D2
  induction D2 with
  | nil =>
    intro D1 f sz ks vs e hf rA r1 _
    obtain ⟨f, rfl⟩ : ∃ g, f = g + 1 := ⟨f - 1, by omega⟩
    rw [List.append_nil] at e
    subst e
    rw [wX_removeFound_133]
    dsimp only
    rw [nI_1]
    refine br_t (nI_le (by omega) (by omega)) (nm_r (e' := nI (N - 1)) (pk_sub (b := 1) (by omega)) (H _ _ _ (gt_rp_app.mpr ⟨rA, ?_⟩)))
    rw [Nat.zero_add, hA]; exact r1
  | cons L0 D2 ih =>
    intro D1 f sz ks vs e hf rA r1 r2
    rw [List.length_cons] at hf
    obtain ⟨f, rfl⟩ : ∃ g, f = g + 1 := ⟨f - 1, by omega⟩
    have hd : D.length = D1.length + D2.length + 1 := by rw [e, List.length_append, List.length_cons]; omega
    have r3 := gt_rp_cons.mp r2
    rw [wX_removeFound_133]
    dsimp only
    rw [nI_1]
    refine br_f (nI_ge (by omega) (by omega)) (gx_copyLeaf (by omega) (by omega) (by omega) (nm_e ?_))
    have h1 : (D1 ++ [L0]).length = D1.length + 1 := by rw [List.length_append]; rfl
    have q := ih (D1 ++ [L0]) f (upd sz (l + D1.length) (sz (l + D1.length + 1))) (gt_cp ks (l + D1.length + 1) (l + D1.length)) (gt_cp vs (l + D1.length + 1) (l + D1.length)) (by rw [e, List.append_assoc]; rfl) (by omega) (gt_cp_rp rA (Or.inr (by omega))) (gt_rp_app.mpr ⟨gt_cp_rp r1 (Or.inr (by omega)), gt_rp_cons.mpr ⟨gt_cp_lf r3.1, gt_rp_nil⟩⟩) ?_
    · rw [h1] at q; exact q
    · rw [h1]
      exact gt_cp_rp r3.2 (Or.inl (by omega))
theorem gx_rem28 {post : SX → Prop} {l s z N : Nat} (hl : l < 32) (hz : z < 8) (hN : N ≤ 32) (hsz : sz l = nI z)
    (H1 : 0 < z ∨ N = 1 → post (dp, nI N, tt, nI l, nI s, sb, sz, gt_ls ks (l * 8 + s) (l * 8 + z), gt_ls vs (l * 8 + s) (l * 8 + z), mk, mv, qk, qv))
    (H2 : z = 0 → N ≠ 1 → ∃ n133 : Nat, wX_removeFound_133 post n133 (nI l) dp (nI N) tt (nI l) (nI s) sb sz (gt_ls ks (l * 8 + s) (l * 8 + z)) (gt_ls vs (l * 8 + s) (l * 8 + z)) mk mv qk qv) :
    ∀ f i, s ≤ i → i ≤ z → z - i < f → wX_removeFound_28 post dp (nI N) tt (nI l) (nI s) f (nI i) sb sz (gt_ls ks (l * 8 + s) (l * 8 + i)) (gt_ls vs (l * 8 + s) (l * 8 + i)) mk mv qk qv := by
  intro f
  induction f with
  | zero => intro i _ _ h; omega
  | succ f ih =>
    intro i hs hi hf
    rw [wX_removeFound_28]
    dsimp only
    rw [nI_clamp (show l < 2 ^ 31 by omega), hsz]
    have v2 : vp_in (nI l) 32 := vp_in_nI hl (by omega)
    refine ⟨v2, pk_le z i (fun y => ⟨v2, ?_⟩) (fun y => ?_)⟩
    · have e : i = z := by omega
      subst e
      refine pk_lt 0 i (fun w => H1 (Or.inl w)) (fun w => pk_eq N 1 (fun x => H1 (Or.inr x)) (fun x => H2 (by omega) x))
    · have e1 : ((nI l * 8) + nI i) + 1 = nI (l * 8 + i + 1) := by rw [gx_ad, nI_1]
      rw [e1, gx_adc (s := i) hl (by omega), nI_clamp (show l * 8 + i + 1 < 2 ^ 31 by omega)]
      have v1 : vp_in ((nI l * 8) + nI i) 256 := gx_adin hl (by omega)
      have v3 : vp_in (nI (l * 8 + i + 1)) 256 := vp_in_nI (by omega) (by omega)
      exact ⟨v3, v1, nm_r (gt_ls_s (by omega)) ⟨v3, v1, nm_r (gt_ls_s (by omega)) (nm_r (nI_1 i) (ih (i + 1) (by omega) (by omega) (by omega)))⟩⟩
theorem gx_removeFound {post : SX → Prop} {LL A D : List (List gt_E)} {B C : List gt_E} {c : gt_E} {k : Nat} (hX : gt_X LL lv tt sz ks vs) (hs : gt_sk LL k A B (c :: C) D)
    (H : ∀ (LL' : List (List gt_E)) (lv tt lf sl : Int32) (sz ks vs : Nat → Int32), gt_X LL' lv tt sz ks vs → LL'.flatten = (A.flatten ++ B) ++ (C ++ D.flatten) → post (dp, lv, tt, lf, sl, sb, sz, ks, vs, mk, mv, qk, qv)) :
    wpX_removeFound post (dp, lv, tt, nI A.length, nI B.length, sb, sz, ks, vs, mk, mv, qk, qv) := by
  obtain ⟨hsh, hrp, hlv, htt, h60⟩ := hX
  subst hlv htt
  have ⟨hf, hl⟩ := gt_sk_lim hs
  have h32 := hsh.2.1
  have hr := hs.1 ▸ hrp
  have hlf := gt_rp_mid hr
  have h8 := hlf.1
  have hbc : (B ++ c :: C).length = B.length + C.length + 1 := by rw [List.length_append, List.length_cons]; omega
  have hbc2 : (B ++ C).length = B.length + C.length := List.length_append
  have hfl : LL.flatten.length = ((A.flatten ++ B) ++ (C ++ D.flatten)).length + 1 := by
    simp only [hf, List.length_append, List.length_cons]; omega
  have hsrt : gt_srt ((A.flatten ++ B) ++ (C ++ D.flatten)) := by
    have := hsh.2.2.2.1
    rw [hf, List.cons_append] at this
    exact gt_srt_del this
  have hlim : ∀ e, e ∈ (A.flatten ++ B) ++ (C ++ D.flatten) → e.1 < 2097152 := by
    intro e he
    refine hsh.2.2.2.2 e ?_
    rw [hf, List.cons_append]
    rcases List.mem_append.mp he with q | q
    · exact List.mem_append_left _ q
    · exact List.mem_append_right _ (List.mem_cons_of_mem _ q)
  show vp_in (nI A.length) 32 ∧ vp_in (nI A.length) 32 ∧ _
  rw [nI_clamp (show A.length < 2 ^ 31 by omega)]
  refine ⟨vp_in_nI (by omega) (by omega), vp_in_nI (by omega) (by omega), nm_e (nm_r (e' := nI (LL.flatten.length - 1)) (pk_sub (b := 1) (by omega)) ⟨9, ?_⟩)⟩
  have h1 := gt_rp_app.mp hr
  rw [Nat.zero_add] at h1
  have h2 := gt_rp_cons.mp h1.2
  have hdel := gt_del_lf hlf
  have rA : gt_rp (upd sz A.length (sz A.length - 1)) (gt_ls ks (A.length * 8 + B.length) (A.length * 8 + (B ++ C).length)) (gt_ls vs (A.length * 8 + B.length) (A.length * 8 + (B ++ C).length)) 0 A :=
    gt_rp_keep h1.1 (fun j a b => pk_un (by omega)) (fun j a b => if_neg (by omega)) (fun j a b => if_neg (by omega))
  have rD : gt_rp (upd sz A.length (sz A.length - 1)) (gt_ls ks (A.length * 8 + B.length) (A.length * 8 + (B ++ C).length)) (gt_ls vs (A.length * 8 + B.length) (A.length * 8 + (B ++ C).length)) (A.length + 1) D :=
    gt_rp_keep h2.2 (fun j a b => pk_un (by omega)) (fun j a b => if_neg (by omega)) (fun j a b => if_neg (by omega))
  have q := gx_rem28 (post := post) (dp := dp) (tt := nI (LL.flatten.length - 1)) (sb := sb) (sz := upd sz A.length (sz A.length - 1)) (ks := ks) (vs := vs) (mk := mk) (mv := mv) (qk := qk) (qv := qv) (l := A.length) (s := B.length) (z := (B ++ C).length) (N := LL.length) (by omega) (by omega) h32 hdel.2.1 (fun y => ?_) (fun y w => ?_) 9 B.length (Nat.le_refl _) (by omega) (by omega)
  · rw [gt_ls_0, gt_ls_0] at q; exact q
  · have hlen : (A ++ (B ++ C) :: D).length = LL.length := by rw [List.length_append, List.length_cons]; omega
    have hfe : (A ++ (B ++ C) :: D).flatten = (A.flatten ++ B) ++ (C ++ D.flatten) := by rw [List.flatten_append, List.flatten_cons, List.append_assoc, List.append_assoc]
    refine H (A ++ (B ++ C) :: D) _ _ _ _ _ _ _ ⟨⟨by simp, by omega, ?_, by rw [hfe]; exact hsrt, by rw [hfe]; exact hlim⟩, ?_, by rw [hlen], ?_, ?_⟩ hfe
    · intro h2 X hX
      rcases List.mem_append.mp hX with w | w
      · exact hsh.2.2.1 (by omega) X (by rw [hs.1]; exact List.mem_append_left _ w)
      · rcases List.mem_cons.mp w with w | w
        · rw [w]; intro e
          rw [e, List.length_nil] at y; omega
        · exact hsh.2.2.1 (by omega) X (by rw [hs.1]; exact List.mem_append_right _ (List.mem_cons_of_mem _ w))
    · refine gt_rp_app.mpr ⟨rA, ?_⟩
      rw [Nat.zero_add]
      exact gt_rp_cons.mpr ⟨hdel, rD⟩
    · rw [hfe]; exact congrArg nI (by omega)
    · rw [hfe]; omega
  · have hB : B = [] := List.eq_nil_of_length_eq_zero (by omega)
    have hC : C = [] := List.eq_nil_of_length_eq_zero (by omega)
    have hfe : (A ++ D).flatten = (A.flatten ++ B) ++ (C ++ D.flatten) := by rw [List.flatten_append, hB, hC, List.append_nil]; rfl
    have hlen : (A ++ D).length = LL.length - 1 := by rw [List.length_append]; omega
    refine ⟨D.length + 1, gx_rem133 (A := A) (D := D) rfl (by omega) h32 (fun sz ks vs hr => ?_) D [] (D.length + 1) _ _ _ rfl (by omega) rA gt_rp_nil rD⟩
    refine H (A ++ D) _ _ _ _ _ _ _ ⟨⟨?_, by omega, ?_, by rw [hfe]; exact hsrt, by rw [hfe]; exact hlim⟩, hr, by rw [hlen], ?_, ?_⟩ hfe
    · intro e
      rw [e, List.length_nil] at hlen; omega
    · intro h2 X hX
      rcases List.mem_append.mp hX with w | w
      · exact hsh.2.2.1 (by omega) X (by rw [hs.1]; exact List.mem_append_left _ w)
      · exact hsh.2.2.1 (by omega) X (by rw [hs.1]; exact List.mem_append_right _ (List.mem_cons_of_mem _ w))
    · rw [hfe]; exact congrArg nI (by omega)
    · rw [hfe]; omega
theorem gt_set_lf {l k : Nat} {v w : Int32} {B C : List gt_E} (h : gt_lf sz ks vs l (B ++ (k, w) :: C)) : gt_lf sz ks (upd vs (l * 8 + B.length) v) l (B ++ (k, v) :: C) := by
  have hl : (B ++ (k, v) :: C).length = (B ++ (k, w) :: C).length := by rw [List.length_append, List.length_append]; rfl
  refine ⟨by rw [hl]; exact h.1, by rw [hl]; exact h.2.1, fun i e he => ?_⟩
  by_cases z : i = B.length
  · subst z
    rw [List.getElem?_append_right (Nat.le_refl _), Nat.sub_self] at he
    have e2 : (k, v) = e := Option.some.inj he
    subst e2
    exact ⟨(h.2.2 B.length (k, w) (by rw [List.getElem?_append_right (Nat.le_refl _), Nat.sub_self]; rfl)).1, pk_us⟩
  · rw [pk_un (by omega)]
    refine h.2.2 i e ?_
    rcases Nat.lt_or_ge i B.length with y | y
    · rw [List.getElem?_append_left y] at he
      rw [List.getElem?_append_left y]; exact he
    · rw [List.getElem?_append_right y, show i - B.length = (i - B.length - 1) + 1 from by omega, List.getElem?_cons_succ] at he
      rw [List.getElem?_append_right y, show i - B.length = (i - B.length - 1) + 1 from by omega, List.getElem?_cons_succ]; exact he
theorem gt_set_X {LL A D : List (List gt_E)} {B C : List gt_E} {k : Nat} {v w : Int32} (hX : gt_X LL lv tt sz ks vs) (e : LL = A ++ (B ++ (k, w) :: C) :: D) :
    gt_X (A ++ (B ++ (k, v) :: C) :: D) lv tt sz ks (upd vs (A.length * 8 + B.length) v) ∧ List.Perm (A ++ (B ++ (k, v) :: C) :: D).flatten (gt_put k v LL.flatten) := by
  obtain ⟨hsh, hrp, hlv, htt, h60⟩ := hX
  have f1 : LL.flatten = (A.flatten ++ B) ++ (k, w) :: (C ++ D.flatten) := by
    rw [e, List.flatten_append, List.flatten_cons, List.append_assoc, List.append_assoc]; rfl
  have f2 : (A ++ (B ++ (k, v) :: C) :: D).flatten = (A.flatten ++ B) ++ (k, v) :: (C ++ D.flatten) := by
    rw [List.flatten_append, List.flatten_cons, List.append_assoc, List.append_assoc]; rfl
  have hlen : (A ++ (B ++ (k, v) :: C) :: D).length = LL.length := by rw [e, List.length_append, List.length_append]; rfl
  have hfl : (A ++ (B ++ (k, v) :: C) :: D).flatten.length = LL.flatten.length := by simp only [f1, f2, List.length_append, List.length_cons]
  have hr := e ▸ hrp
  have h1 := gt_rp_app.mp hr
  rw [Nat.zero_add] at h1
  have h2 := gt_rp_cons.mp h1.2
  have h8 := h2.1.1
  rw [List.length_append, List.length_cons] at h8
  have hsrt := hsh.2.2.2.1
  have hlim := hsh.2.2.2.2
  rw [f1] at hsrt hlim
  refine ⟨⟨⟨by simp, by rw [hlen]; exact hsh.2.1, ?_, by rw [f2]; exact gt_srt_set hsrt, ?_⟩, ?_, by rw [hlen]; exact hlv, by rw [hfl]; exact htt, by rw [hfl]; exact h60⟩, ?_⟩
  · intro h2 X hX
    rw [hlen] at h2
    rcases List.mem_append.mp hX with y | y
    · exact hsh.2.2.1 h2 X (by rw [e]; exact List.mem_append_left _ y)
    · rcases List.mem_cons.mp y with y | y
      · rw [y]; simp
      · exact hsh.2.2.1 h2 X (by rw [e]; exact List.mem_append_right _ (List.mem_cons_of_mem _ y))
  · intro x hx
    rw [f2] at hx
    rcases List.mem_append.mp hx with y | y
    · exact hlim x (List.mem_append_left _ y)
    · rcases List.mem_cons.mp y with y | y
      · rw [y]; exact hlim (k, w) (List.mem_append_right _ List.mem_cons_self)
      · exact hlim x (List.mem_append_right _ (List.mem_cons_of_mem _ y))
  · refine gt_rp_app.mpr ⟨gt_rp_keep h1.1 (fun j a b => rfl) (fun j a b => rfl) (fun j a b => pk_un (by omega)), ?_⟩
    rw [Nat.zero_add]
    exact gt_rp_cons.mpr ⟨gt_set_lf h2.1, gt_rp_keep h2.2 (fun j a b => rfl) (fun j a b => rfl) (fun j a b => pk_un (by omega))⟩
  · rw [f2, f1]
    exact gt_put_mid v (gt_srt_nd hsrt)
theorem gx_put {post : SX → Prop} {LL : List (List gt_E)} {k : Nat} {v : Int32} (hX : gt_X LL lv tt sz ks vs) (hk : k < 2097152) (h60 : (∀ e, e ∈ LL.flatten → e.1 ≠ k) → LL.flatten.length < 60)
    (H : ∀ (LL' : List (List gt_E)) (lv tt lf sl : Int32) (sz ks vs qk qv : Nat → Int32), gt_X LL' lv tt sz ks vs → List.Perm LL'.flatten (gt_put k v LL.flatten) → post (dp, lv, tt, lf, sl, sb, sz, ks, vs, mk, mv, qk, qv)) : wpX_put post (dp, lv, tt, lf, sl, sb, sz, ks, vs, mk, mv, qk, qv) (nI k) v := by
  have hX' := hX
  obtain ⟨hsh, hrp, hlv, htt, h6⟩ := hX'
  have h32 := hsh.2.1
  unfold wpX_put
  refine gx_present hsh hrp hlv hk (fun A B C D hs hne => ?_) (fun A B w C D hs => ?_)
  · refine br_t rfl ?_
    refine gx_insert hX (h60 hne) hk hne (fun LL' lv tt lf sl sz ks vs qk qv h1 h2 => ?_)
    refine H LL' lv tt lf sl sz ks vs qk qv h1 ?_
    rw [gt_put_new v hne]; exact h2
  · refine br_f (by decide) ?_
    have ⟨hf, hl⟩ := gt_sk_lim hs
    have hm := gt_lf_mid (gt_rp_mid (hs.1 ▸ hrp))
    rw [gx_adc (s := B.length) (by omega) hm.1]
    have ⟨y1, y2⟩ := gt_set_X (v := v) hX hs.1
    exact ⟨gx_adin (by omega) hm.1, nm_e (H _ _ _ _ _ _ _ _ qk qv y1 y2)⟩
end
end
section
/-! the reference: its nodes as they lie in the arrays; begins, here, order, earlier -/
section
variable {nn dd : Int32} {li le va po : Nat → Int32}
def gy_nd (li le va : Nat → Int32) (i : Nat) (e : gt_E) : Prop := gt_ok e.1 ∧ le i = nI (gt_len e.1) ∧ va i = e.2 ∧ ∀ k, k < gt_len e.1 → li (i * 3 + k) = gt_sI (gt_dig e.1 k)
def gy_rp (li le va : Nat → Int32) (o : Nat) (M : List gt_E) : Prop := ∀ i e, M[i]? = some e → gy_nd li le va (o + i) e
theorem gy_rp_nil {o : Nat} : gy_rp li le va o [] := fun l B h => by simp at h
theorem gy_rp_cons {o : Nat} {e : gt_E} {R : List gt_E} : gy_rp li le va o (e :: R) ↔ gy_nd li le va o e ∧ gy_rp li le va (o + 1) R := by
  constructor
  · intro h
    refine ⟨h 0 e rfl, fun l C hl => ?_⟩
    have := h (l + 1) C hl
    rw [show o + 1 + l = o + (l + 1) from by omega]
    exact this
  · intro ⟨a, b⟩ l C hl
    rcases l with _ | l
    · have q : e = C := Option.some.inj hl
      subst q; exact a
    · have := b l C hl
      rw [show o + (l + 1) = o + 1 + l from by omega]
      exact this
theorem gy_rp_app {R : List gt_E} : ∀ {A : List gt_E} {o : Nat}, gy_rp li le va o (A ++ R) ↔ gy_rp li le va o A ∧ gy_rp li le va (o + A.length) R
  | [], o => ⟨fun h => ⟨gy_rp_nil, h⟩, fun h => h.2⟩
  | B :: A, o => by
    rw [List.cons_append, gy_rp_cons, gy_rp_cons, gy_rp_app (A := A), List.length_cons, show o + 1 + A.length = o + (A.length + 1) from by omega, and_assoc]
theorem gy_rp_mid {P S : List gt_E} {e : gt_E} (h : gy_rp li le va 0 (P ++ e :: S)) : gy_nd li le va P.length e := by
  have := (gy_rp_cons.mp (gy_rp_app.mp h).2).1
  rw [Nat.zero_add] at this; exact this
theorem gy_nd_keep {li' le' va' : Nat → Int32} {i : Nat} {e : gt_E} (h : gy_nd li le va i e) (h1 : ∀ j, i * 3 ≤ j → j < i * 3 + 3 → li' j = li j) (h2 : le' i = le i) (h3 : va' i = va i) : gy_nd li' le' va' i e := by
  refine ⟨h.1, h2.trans h.2.1, h3.trans h.2.2.1, fun k hk => ?_⟩
  have := gt_len_le e.1
  rw [h1 _ (by omega) (by omega)]; exact h.2.2.2 k hk
theorem gy_rp_keep {li' le' va' : Nat → Int32} {o : Nat} {M : List gt_E} (h : gy_rp li le va o M) (h1 : ∀ j, o * 3 ≤ j → j < (o + M.length) * 3 → li' j = li j) (h2 : ∀ j, o ≤ j → j < o + M.length → le' j = le j) (h3 : ∀ j, o ≤ j → j < o + M.length → va' j = va j) : gy_rp li' le' va' o M := by
  intro i e he
  have hi := gt_idx he
  exact gy_nd_keep (h i e he) (fun j a b => h1 j (by omega) (by omega)) (h2 _ (by omega) (by omega)) (h3 _ (by omega) (by omega))
/-- the pointer in the reference -/
def gy_pt (p : Nat → Nat) (d : Nat) (po : Nat → Int32) : Prop := ∀ i, i < d → po i = gt_sI (p i)
theorem gy_isSub {post : Int32 → Prop} {x : Int32} (h0 : ∀ s : Nat, 1 ≤ s → s ≤ 101 → x = gt_sI s → post 1) (h1 : (x < -50 ∨ ¬ x ≤ 50) → post 0) : wpY_isSubscript post (nn, dd, li, le, va, po) x := by
  refine br_c (fun z => h1 (Or.inl z)) (fun z => br_c (fun y => h1 (Or.inr (Int32.not_le.mpr y))) (fun y => ?_))
  obtain ⟨s, a, b, c⟩ := gt_sI_of z (Int32.not_lt.mp y)
  exact h0 s a b c
theorem gy_m3 {j : Nat} : nI j * 3 = nI (j * 3) := pk_mul j 3
theorem gy_ad {j s : Nat} : (nI j * 3) + nI s = nI (j * 3 + s) := by rw [gy_m3, nI_add]
theorem gy_adc {j s : Nat} (hj : j < 60) (hs : s < 3) : ((nI j * 3) + nI s).toNatClampNeg = j * 3 + s := by rw [gy_ad, nI_clamp (by omega)]
theorem gy_adin {j s : Nat} (hj : j < 60) (hs : s < 3) : vp_in ((nI j * 3) + nI s) 180 := by rw [gy_ad]; exact vp_in_nI (by omega) (by omega)
theorem gy_begins14 {post : Int32 → Prop} {p : Nat → Nat} {i n : Nat} {e : gt_E} (hi : i < 60) (hnd : gy_nd li le va i e) (hp : gt_pp p n) (hpo : gy_pt p n po) (hL : n ≤ gt_len e.1) (H1 : gt_in p n e.1 → post 1) (H0 : ¬ gt_in p n e.1 → post 0) :
    ∀ f k, k ≤ n → n - k < f → (∀ j, j < k → gt_dig e.1 j = p j) → wY_begins_14 post (nI i) (nI n) nn dd li le va po f (nI k) := by
  have h3 := hp.1
  intro f
  induction f with
  | zero => intro k _ h; omega
  | succ f ih =>
    intro k hk hf hq
    rw [wY_begins_14]
    dsimp only
    refine pk_le n k (fun z => ?_) (fun z => ?_)
    · have ek : k = n := by omega
      subst ek
      exact H1 ((gt_in_iff hp hnd.1).mpr ⟨hL, hq⟩)
    · rw [gy_adc (s := k) hi (by omega), nI_clamp (show k < 2 ^ 31 by omega), hnd.2.2.2 k (by omega), hpo k z]
      refine ⟨gy_adin hi (by omega), vp_in_nI (by omega) (by omega), ?_⟩
      have l1 := gt_dig_le hnd.1 k
      have l2 := hp.2 k z
      by_cases y : gt_dig e.1 k = p k
      · refine br_t (by rw [y]) (nm_r (nI_1 k) (ih (k + 1) (by omega) (by omega) (fun j hj => ?_)))
        by_cases w : j = k
        · subst w; exact y
        · exact hq j (by omega)
      · refine br_f (by rw [gt_sI_eq (by omega) (by omega)]; exact y) (H0 (fun w => y ?_))
        exact ((gt_in_iff hp hnd.1).mp w).2 k z
theorem gy_begins {post : Int32 → Prop} {p : Nat → Nat} {i n : Nat} {e : gt_E} (hi : i < 60) (hnd : gy_nd li le va i e) (hp : gt_pp p n) (hpo : gy_pt p n po) (H1 : gt_in p n e.1 → post 1) (H0 : ¬ gt_in p n e.1 → post 0) : wpY_begins post (nn, dd, li, le, va, po) (nI i) (nI n) := by
  have h3 := hp.1
  have hl := gt_len_le e.1
  show vp_in (nI i) 60 ∧ _
  rw [nI_clamp (show i < 2 ^ 31 by omega), hnd.2.1]
  refine ⟨vp_in_nI hi (by omega), pk_le n (gt_len e.1) (fun z => ?_) (fun z => ?_)⟩
  · exact ⟨n + 1, gy_begins14 hi hnd hp hpo z H1 H0 (n + 1) 0 (by omega) (by omega) (fun j hj => by omega)⟩
  · refine H0 (fun w => ?_)
    have := ((gt_in_iff hp hnd.1).mp w).1
    omega
theorem gy_here2 {post : Int32 → Prop} {p : Nat → Nat} {d : Nat} {M : List gt_E} (hM : gy_rp li le va 0 M) (h60 : M.length ≤ 60) (hp : gt_pp p d) (hpo : gy_pt p d po) (H1 : ∀ P v S, M = P ++ (gt_key p d, v) :: S → post (nI P.length)) (H0 : (∀ e, e ∈ M → e.1 ≠ gt_key p d) → post (-1)) :
    ∀ (S P : List gt_E) (f : Nat), M = P ++ S → (∀ e, e ∈ P → e.1 ≠ gt_key p d) → S.length < f → wY_here_2 post (nI M.length) (nI d) li le va po f (nI P.length) := by
  intro S
  induction S with
  | nil =>
    intro P f e hP hf
    obtain ⟨f, rfl⟩ : ∃ g, f = g + 1 := ⟨f - 1, by omega⟩
    rw [List.append_nil] at e
    subst e
    rw [wY_here_2]
    dsimp only
    exact br_t (nI_le (Nat.le_refl _) (by omega)) (H0 hP)
  | cons c S ih =>
    intro P f e hP hf
    rw [List.length_cons] at hf
    obtain ⟨f, rfl⟩ : ∃ g, f = g + 1 := ⟨f - 1, by omega⟩
    have hl : M.length = P.length + S.length + 1 := by rw [e, List.length_append, List.length_cons]; omega
    have hnd := gy_rp_mid (e ▸ hM)
    have hd3 := hp.1
    have hl3 := gt_len_le c.1
    have next : c.1 ≠ gt_key p d → wY_here_2 post (nI M.length) (nI d) li le va po f (nI (P.length + 1)) := by
      intro hne
      have q := ih (P ++ [c]) f (by rw [e, List.append_assoc]; rfl) (fun x hx => ?_) (by omega)
      · rw [List.length_append] at q; exact q
      · rcases List.mem_append.mp hx with y | y
        · exact hP x y
        · rw [List.mem_singleton.mp y]; exact hne
    have hiff := gt_here_iff hp hnd.1
    rw [wY_here_2]
    dsimp only
    rw [nI_clamp (show P.length < 2 ^ 31 by omega), hnd.2.1]
    refine br_f (nI_ge (by omega) (by omega)) ⟨vp_in_nI (by omega) (by omega), pk_eq (gt_len c.1) d (fun z => ?_) (fun z => ?_)⟩
    · refine gy_begins (by omega) hnd hp hpo (fun y => ?_) (fun y => ?_)
      · refine br_f (by decide) ?_
        obtain ⟨c1, c2⟩ := c
        have hk := hiff.mp ⟨z, y⟩
        dsimp only at hk
        subst hk
        exact H1 P c2 S e
      · refine br_t rfl (nm_r (nI_1 _) (next (fun w => y (hiff.mpr w).2)))
    · exact nm_r (nI_1 _) (next (fun w => z (hiff.mpr w).1))
theorem gy_here {post : Int32 → Prop} {p : Nat → Nat} {d : Nat} {M : List gt_E} (hM : gy_rp li le va 0 M) (h60 : M.length ≤ 60) (hp : gt_pp p d) (hpo : gy_pt p d po) (H1 : ∀ P v S, M = P ++ (gt_key p d, v) :: S → post (nI P.length)) (H0 : (∀ e, e ∈ M → e.1 ≠ gt_key p d) → post (-1)) : wpY_here post (nI M.length, nI d, li, le, va, po) :=
  ⟨M.length + 1, gy_here2 hM h60 hp hpo H1 H0 M [] (M.length + 1) rfl (fun e he => by simp at he) (by omega)⟩
theorem gy_o52 {post : Int32 → Prop} {J : Int32 → Prop} {x1 : Int32} {k a b : Nat} (ha : a ≤ 300) (hb : b ≤ 300) (He : a = b → J (nI (k + 1))) (Hg : b < a → post 1) (Hl : a < b → post (-1)) : wY_order_52 post J x1 (nI k) (gt_sI a) (gt_sI b) nn dd li le va po := by
  unfold wY_order_52
  by_cases z : a = b
  · exact br_t (by rw [z]) (nm_r (nI_1 k) (He z))
  · refine br_f (by rw [gt_sI_eq ha hb]; exact z) ?_
    by_cases y : b ≤ a
    · exact br_t ((gt_sI_le hb ha).mpr y) (Hg (by omega))
    · exact br_f (fun w => y ((gt_sI_le hb ha).mp w)) (Hl (by omega))
theorem gy_o32 {post : Int32 → Prop} {J : Int32 → Prop} {x1 : Int32} {p : Nat → Nat} {d k a : Nat} (hp : gt_pp p d) (hpo : gy_pt p d po) (hk : k < 3) (ha : a ≤ 300) (He : a = gt_pd p d k → J (nI (k + 1))) (Hg : gt_pd p d k < a → post 1) (Hl : a < gt_pd p d k → post (-1)) : wY_order_32 post J x1 (nI k) (gt_sI a) nn (nI d) li le va po := by
  have hd3 := hp.1
  have hb := gt_pd_le hp k
  unfold wY_order_32
  refine pk_le d k (fun z => ?_) (fun z => ?_)
  · rw [← gt_sI0]
    rw [gt_pd_ge z] at He Hg Hl
    exact gy_o52 ha (by omega) He Hg Hl
  · rw [nI_clamp (show k < 2 ^ 31 by omega), hpo k z]
    rw [gt_pd_lt z] at He Hg Hl hb
    exact ⟨vp_in_nI hk (by omega), gy_o52 ha (by omega) He Hg Hl⟩
theorem gy_order2 {post : Int32 → Prop} {p : Nat → Nat} {i d : Nat} {e : gt_E} (hi : i < 60) (hnd : gy_nd li le va i e) (hp : gt_pp p d) (hpo : gy_pt p d po) (Hl : e.1 < gt_key p d → post (-1)) (He : e.1 = gt_key p d → post 0) (Hg : gt_key p d < e.1 → post 1) :
    ∀ f k, k ≤ 3 → 3 - k < f → (∀ j, j < k → gt_dig e.1 j = gt_dig (gt_key p d) j) → wY_order_2 post (nI i) nn (nI d) li le va po f (nI k) := by
  intro f
  induction f with
  | zero => intro k _ h; omega
  | succ f ih =>
    intro k hk hf hq
    have hl3 := gt_len_le e.1
    rw [wY_order_2]
    dsimp only
    refine pk_le 3 k (fun z => ?_) (fun z => ?_)
    · exact He (gt_dig_ext (hq 0 (by omega)) (hq 1 (by omega)) (hq 2 (by omega)))
    · have hkd := gt_key_dig hp z
      have next : gt_dig e.1 k = gt_pd p d k → wY_order_2 post (nI i) nn (nI d) li le va po f (nI (k + 1)) := by
        intro w
        refine ih (k + 1) (by omega) (by omega) (fun j hj => ?_)
        by_cases y : j = k
        · subst y; rw [w, hkd]
        · exact hq j (by omega)
      have gg : gt_pd p d k < gt_dig e.1 k → post 1 := fun w => Hg (gt_lex z (fun j hj => (hq j hj).symm) (by rw [hkd]; exact w))
      have ll : gt_dig e.1 k < gt_pd p d k → post (-1) := fun w => Hl (gt_lex z hq (by rw [hkd]; exact w))
      have dl := gt_dig_le hnd.1 k
      rw [nI_clamp (show i < 2 ^ 31 by omega), hnd.2.1]
      refine ⟨vp_in_nI hi (by omega), pk_le (gt_len e.1) k (fun y => ?_) (fun y => ?_)⟩
      · rw [gt_dig_z hnd.1 y z] at next gg ll
        rw [← gt_sI0]
        exact gy_o32 hp hpo z (by omega) next gg ll
      · rw [gy_adc (s := k) hi z, hnd.2.2.2 k y]
        exact ⟨gy_adin hi z, gy_o32 hp hpo z (by omega) next gg ll⟩
theorem gy_order {post : Int32 → Prop} {p : Nat → Nat} {i d : Nat} {e : gt_E} (hi : i < 60) (hnd : gy_nd li le va i e) (hp : gt_pp p d) (hpo : gy_pt p d po) (Hl : e.1 < gt_key p d → post (-1)) (He : e.1 = gt_key p d → post 0) (Hg : gt_key p d < e.1 → post 1) : wpY_order post (nn, nI d, li, le, va, po) (nI i) :=
  ⟨4, gy_order2 hi hnd hp hpo Hl He Hg 4 0 (by omega) (by omega) (fun j hj => by omega)⟩
theorem gy_e59 {post : Int32 → Prop} {J : Int32 → Prop} {x1 x2 : Int32} {k a b : Nat} (ha : a ≤ 300) (hb : b ≤ 300) (He : a = b → J (nI (k + 1))) (Hg : b < a → post 0) (Hl : a < b → post 1) : wY_earlier_59 post J x1 x2 (nI k) (gt_sI a) (gt_sI b) nn dd li le va po := by
  unfold wY_earlier_59
  by_cases z : a = b
  · exact br_t (by rw [z]) (nm_r (nI_1 k) (He z))
  · refine br_f (by rw [gt_sI_eq ha hb]; exact z) ?_
    by_cases y : b ≤ a
    · exact br_t ((gt_sI_le hb ha).mpr y) (Hg (by omega))
    · exact br_f (fun w => y ((gt_sI_le hb ha).mp w)) (Hl (by omega))
theorem gy_e32 {post : Int32 → Prop} {J : Int32 → Prop} {x1 : Int32} {j k a : Nat} {e : gt_E} (hj : j < 60) (hnd : gy_nd li le va j e) (hk : k < 3) (ha : a ≤ 300) (He : a = gt_dig e.1 k → J (nI (k + 1))) (Hg : gt_dig e.1 k < a → post 0) (Hl : a < gt_dig e.1 k → post 1) : wY_earlier_32 post J x1 (nI j) (nI k) (gt_sI a) nn dd li le va po := by
  have hl3 := gt_len_le e.1
  have dl := gt_dig_le hnd.1 k
  unfold wY_earlier_32
  rw [nI_clamp (show j < 2 ^ 31 by omega), hnd.2.1]
  refine ⟨vp_in_nI hj (by omega), pk_le (gt_len e.1) k (fun z => ?_) (fun z => ?_)⟩
  · rw [← gt_sI0]
    rw [gt_dig_z hnd.1 z hk] at He Hg Hl
    exact gy_e59 ha (by omega) He Hg Hl
  · rw [gy_adc (s := k) hj hk, hnd.2.2.2 k z]
    exact ⟨gy_adin hj hk, gy_e59 ha (by omega) He Hg Hl⟩
theorem gy_earlier2 {post : Int32 → Prop} {i j : Nat} {e c : gt_E} (hi : i < 60) (hj : j < 60) (hnd : gy_nd li le va i e) (hnc : gy_nd li le va j c) (H1 : e.1 < c.1 → post 1) (H0 : c.1 ≤ e.1 → post 0) :
    ∀ f k, k ≤ 3 → 3 - k < f → (∀ m, m < k → gt_dig e.1 m = gt_dig c.1 m) → wY_earlier_2 post (nI i) (nI j) nn dd li le va po f (nI k) := by
  intro f
  induction f with
  | zero => intro k _ h; omega
  | succ f ih =>
    intro k hk hf hq
    have hl3 := gt_len_le e.1
    rw [wY_earlier_2]
    dsimp only
    refine pk_le 3 k (fun z => ?_) (fun z => ?_)
    · exact H0 (Nat.le_of_eq (gt_dig_ext (hq 0 (by omega)) (hq 1 (by omega)) (hq 2 (by omega))).symm)
    · have next : gt_dig e.1 k = gt_dig c.1 k → wY_earlier_2 post (nI i) (nI j) nn dd li le va po f (nI (k + 1)) := by
        intro w
        refine ih (k + 1) (by omega) (by omega) (fun m hm => ?_)
        by_cases y : m = k
        · subst y; exact w
        · exact hq m (by omega)
      have gg : gt_dig c.1 k < gt_dig e.1 k → post 0 := fun w => H0 (Nat.le_of_lt (gt_lex z (fun m hm => (hq m hm).symm) w))
      have ll : gt_dig e.1 k < gt_dig c.1 k → post 1 := fun w => H1 (gt_lex z hq w)
      have dl := gt_dig_le hnd.1 k
      rw [nI_clamp (show i < 2 ^ 31 by omega), hnd.2.1]
      refine ⟨vp_in_nI hi (by omega), pk_le (gt_len e.1) k (fun y => ?_) (fun y => ?_)⟩
      · rw [gt_dig_z hnd.1 y z] at next gg ll
        rw [← gt_sI0]
        exact gy_e32 hj hnc z (by omega) next gg ll
      · rw [gy_adc (s := k) hi z, hnd.2.2.2 k y]
        exact ⟨gy_adin hi z, gy_e32 hj hnc z (by omega) next gg ll⟩
theorem gy_earlier {post : Int32 → Prop} {i j : Nat} {e c : gt_E} (hi : i < 60) (hj : j < 60) (hnd : gy_nd li le va i e) (hnc : gy_nd li le va j c) (H1 : e.1 < c.1 → post 1) (H0 : c.1 ≤ e.1 → post 0) : wpY_earlier post (nn, dd, li, le, va, po) (nI i) (nI j) :=
  ⟨4, gy_earlier2 hi hj hnd hnc H1 H0 4 0 (by omega) (by omega) (fun m hm => by omega)⟩
end
end
section
/-! the reference's questions -/
section
variable {nn dd : Int32} {li le va po : Nat → Int32}
theorem gy_value {post : Int32 → Prop} {p : Nat → Nat} {d : Nat} {M : List gt_E} (hM : gy_rp li le va 0 M) (h60 : M.length ≤ 60) (hp : gt_pp p d) (hpo : gy_pt p d po) (H1 : ∀ v, (gt_key p d, v) ∈ M → post v) (H0 : (∀ e, e ∈ M → e.1 ≠ gt_key p d) → post 0) : wpY_value post (nI M.length, nI d, li, le, va, po) := by
  unfold wpY_value
  refine gy_here hM h60 hp hpo (fun P v S e => ?_) (fun z => br_f (by decide) (H0 z))
  have hl : M.length = P.length + S.length + 1 := by rw [e, List.length_append, List.length_cons]; omega
  have hnd := gy_rp_mid (e ▸ hM)
  rw [nI_clamp (show P.length < 2 ^ 31 by omega), hnd.2.2.1]
  exact br_t (nI_pos' (by omega)) ⟨vp_in_nI (by omega) (by omega), H1 v (by rw [e]; exact List.mem_append_right _ List.mem_cons_self)⟩
theorem gy_before4 {post : Int32 → Prop} {p : Nat → Nat} {d : Nat} {M : List gt_E} (hM : gy_rp li le va 0 M) (h60 : M.length ≤ 60) (hp : gt_pp p d) (hpo : gy_pt p d po) (H : post (nI (M.countP (fun e => decide (e.1 < gt_key p d))))) :
    ∀ (S P : List gt_E) (f : Nat), M = P ++ S → S.length < f → wY_before_4 post (nI M.length) (nI d) li le va po f (nI (P.countP (fun e => decide (e.1 < gt_key p d)))) (nI P.length) := by
  intro S
  induction S with
  | nil =>
    intro P f e hf
    obtain ⟨f, rfl⟩ : ∃ g, f = g + 1 := ⟨f - 1, by omega⟩
    rw [List.append_nil] at e
    subst e
    rw [wY_before_4]
    dsimp only
    exact br_t (nI_le (Nat.le_refl _) (by omega)) H
  | cons c S ih =>
    intro P f e hf
    rw [List.length_cons] at hf
    obtain ⟨f, rfl⟩ : ∃ g, f = g + 1 := ⟨f - 1, by omega⟩
    have hl : M.length = P.length + S.length + 1 := by rw [e, List.length_append, List.length_cons]; omega
    have hnd := gy_rp_mid (e ▸ hM)
    have q := ih (P ++ [c]) f (by rw [e, List.append_assoc]; rfl) (by omega)
    rw [show (P ++ [c]).length = P.length + 1 from by rw [List.length_append]; rfl, List.countP_append] at q
    rw [wY_before_4]
    dsimp only
    refine br_f (nI_ge (by omega) (by omega)) (gy_order (by omega) hnd hp hpo (fun z => ?_) (fun z => ?_) (fun z => ?_))
    · rw [List.countP_cons_of_pos (by exact decide_eq_true z)] at q
      exact br_f (by decide) (nm_r (nI_1 _) (nm_r (nI_1 _) q))
    · rw [List.countP_cons_of_neg (by rw [z]; simp)] at q
      exact br_t (by decide) (nm_r (nI_1 _) q)
    · rw [List.countP_cons_of_neg (by simp; omega)] at q
      exact br_t (by decide) (nm_r (nI_1 _) q)
theorem gy_before {post : Int32 → Prop} {p : Nat → Nat} {d : Nat} {M : List gt_E} (hM : gy_rp li le va 0 M) (h60 : M.length ≤ 60) (hp : gt_pp p d) (hpo : gy_pt p d po) (H : post (nI (M.countP (fun e => decide (e.1 < gt_key p d))))) : wpY_before post (nI M.length, nI d, li, le, va, po) :=
  ⟨M.length + 1, gy_before4 hM h60 hp hpo H M [] (M.length + 1) rfl (by omega)⟩
/-- the best of P so far: a place in P with the least key above k; or none -/
def gy_bst (k : Nat) (P : List gt_E) (b : Int32) : Prop := (b = -1 ∧ ∀ e, e ∈ P → e.1 ≤ k) ∨ ∃ j c, b = nI j ∧ P[j]? = some c ∧ k < c.1 ∧ ∀ e, e ∈ P → k < e.1 → c.1 ≤ e.1
theorem gy_mem_snoc {P : List gt_E} {c : gt_E} {Q : gt_E → Prop} (h : ∀ e, e ∈ P → Q e) (hc : Q c) : ∀ e, e ∈ P ++ [c] → Q e := by
  intro e he
  rcases List.mem_append.mp he with y | y
  · exact h e y
  · rw [List.mem_singleton.mp y]; exact hc
theorem gy_get_snoc {P : List gt_E} {c x : gt_E} {j : Nat} (h : P[j]? = some x) : (P ++ [c])[j]? = some x := by
  rw [List.getElem?_append_left (gt_idx h)]; exact h
theorem gy_get_last {P : List gt_E} {c : gt_E} : (P ++ [c])[P.length]? = some c := by
  rw [List.getElem?_append_right (Nat.le_refl _), Nat.sub_self]; rfl
theorem gy_query4 {post : Int32 → Prop} {p : Nat → Nat} {d : Nat} {M : List gt_E} (hM : gy_rp li le va 0 M) (h60 : M.length ≤ 60) (hp : gt_pp p d) (hpo : gy_pt p d po) (H0 : (∀ e, e ∈ M → e.1 ≤ gt_key p d) → post 0) (H1 : ∀ c, c ∈ M → gt_key p d < c.1 → (∀ e, e ∈ M → gt_key p d < e.1 → c.1 ≤ e.1) → post c.2) :
    ∀ (S P : List gt_E) (f : Nat) (b : Int32), M = P ++ S → S.length < f → gy_bst (gt_key p d) P b → wY_query_4 post (nI M.length) (nI d) li le va po f b (nI P.length) := by
  intro S
  induction S with
  | nil =>
    intro P f b e hf hb
    obtain ⟨f, rfl⟩ : ∃ g, f = g + 1 := ⟨f - 1, by omega⟩
    rw [List.append_nil] at e
    subst e
    rw [wY_query_4]
    dsimp only
    refine br_t (nI_le (Nat.le_refl _) (by omega)) ?_
    rcases hb with ⟨hb, h⟩ | ⟨j, c, hb, hj, hc, h⟩
    · subst hb; exact br_f (by decide) (H0 h)
    · subst hb
      have hi := gt_idx hj
      have hnd := hM j c hj
      rw [Nat.zero_add] at hnd
      rw [nI_clamp (show j < 2 ^ 31 by omega), hnd.2.2.1]
      exact br_t (nI_pos' (by omega)) ⟨vp_in_nI (by omega) (by omega), H1 c (List.mem_iff_getElem?.mpr ⟨j, hj⟩) hc h⟩
  | cons x S ih =>
    intro P f b e hf hb
    rw [List.length_cons] at hf
    obtain ⟨f, rfl⟩ : ∃ g, f = g + 1 := ⟨f - 1, by omega⟩
    have hl : M.length = P.length + S.length + 1 := by rw [e, List.length_append, List.length_cons]; omega
    have hnd := gy_rp_mid (e ▸ hM)
    have next : ∀ b, gy_bst (gt_key p d) (P ++ [x]) b → wY_query_4 post (nI M.length) (nI d) li le va po f b (nI (P.length + 1)) := by
      intro b hb
      have q := ih (P ++ [x]) f b (by rw [e, List.append_assoc]; rfl) (by omega) hb
      rw [show (P ++ [x]).length = P.length + 1 from by rw [List.length_append]; rfl] at q
      exact q
    have skip : x.1 ≤ gt_key p d → gy_bst (gt_key p d) (P ++ [x]) b := by
      intro hx
      rcases hb with ⟨hb, h⟩ | ⟨j, c, hb, hj, hc, h⟩
      · exact Or.inl ⟨hb, gy_mem_snoc h hx⟩
      · exact Or.inr ⟨j, c, hb, gy_get_snoc hj, hc, gy_mem_snoc (Q := fun e => gt_key p d < e.1 → c.1 ≤ e.1) h (fun z => by omega)⟩
    rw [wY_query_4]
    dsimp only
    refine br_f (nI_ge (by omega) (by omega)) (gy_order (by omega) hnd hp hpo (fun z => ?_) (fun z => ?_) (fun z => ?_))
    · exact br_t (by decide) (nm_r (nI_1 _) (next b (skip (by omega))))
    · exact br_t (by decide) (nm_r (nI_1 _) (next b (skip (by omega))))
    · refine br_f (by decide) ?_
      rcases hb with ⟨hb, h⟩ | ⟨j, c, hb, hj, hc, h⟩
      · subst hb
        refine br_t (by decide) (nm_r (nI_1 _) (next _ (Or.inr ⟨P.length, x, rfl, gy_get_last, z, ?_⟩)))
        exact gy_mem_snoc (Q := fun e => gt_key p d < e.1 → x.1 ≤ e.1) (fun e he w => by have := h e he; omega) (fun _ => Nat.le_refl _)
      · subst hb
        have hi := gt_idx hj
        have hnc := hM j c (by rw [e, List.getElem?_append_left hi]; exact hj)
        rw [Nat.zero_add] at hnc
        refine br_f (nI_pos (by omega)) (gy_earlier (by omega) (by omega) hnd hnc (fun y => ?_) (fun y => ?_))
        · refine br_f (by decide) (nm_r (nI_1 _) (next _ (Or.inr ⟨P.length, x, rfl, gy_get_last, z, ?_⟩)))
          exact gy_mem_snoc (Q := fun e => gt_key p d < e.1 → x.1 ≤ e.1) (fun e he w => by have := h e he w; omega) (fun _ => Nat.le_refl _)
        · refine br_t rfl (nm_r (nI_1 _) (next _ (Or.inr ⟨j, c, rfl, gy_get_snoc hj, hc, ?_⟩)))
          exact gy_mem_snoc (Q := fun e => gt_key p d < e.1 → c.1 ≤ e.1) h (fun _ => y)
theorem gy_query {post : Int32 → Prop} {p : Nat → Nat} {d : Nat} {M : List gt_E} (hM : gy_rp li le va 0 M) (h60 : M.length ≤ 60) (hp : gt_pp p d) (hpo : gy_pt p d po) (H0 : (∀ e, e ∈ M → e.1 ≤ gt_key p d) → post 0) (H1 : ∀ c, c ∈ M → gt_key p d < c.1 → (∀ e, e ∈ M → gt_key p d < e.1 → c.1 ≤ e.1) → post c.2) : wpY_query post (nI M.length, nI d, li, le, va, po) :=
  ⟨M.length + 1, gy_query4 hM h60 hp hpo H0 H1 M [] (M.length + 1) (-1) rfl (by omega) (Or.inl ⟨rfl, fun e he => by simp at he⟩)⟩
/-- below the pointer's node: 10 if there is one, else 0 -/
def gt_blw (p : Nat → Nat) (d : Nat) (P : List gt_E) (x : Int32) : Prop := (x = 0 ∧ ∀ e, e ∈ P → ¬ (gt_key p d + 1 ≤ e.1 ∧ e.1 < gt_end p d)) ∨ (x = 10 ∧ ∃ e, e ∈ P ∧ gt_key p d + 1 ≤ e.1 ∧ e.1 < gt_end p d)
theorem gy_data4 {post : Int32 → Prop} {p : Nat → Nat} {d : Nat} {M : List gt_E} (hM : gy_rp li le va 0 M) (h60 : M.length ≤ 60) (hp : gt_pp p d) (hpo : gy_pt p d po) (H0 : ∀ x, gt_blw p d M x → (∀ e, e ∈ M → e.1 ≠ gt_key p d) → post x) (H1 : ∀ x v, gt_blw p d M x → (gt_key p d, v) ∈ M → post (x + 1)) :
    ∀ (S P : List gt_E) (f : Nat) (x : Int32), M = P ++ S → S.length < f → gt_blw p d P x → wY_data_4 post (nI M.length) (nI d) li le va po f x (nI P.length) := by
  intro S
  induction S with
  | nil =>
    intro P f x e hf hb
    obtain ⟨f, rfl⟩ : ∃ g, f = g + 1 := ⟨f - 1, by omega⟩
    rw [List.append_nil] at e
    subst e
    rw [wY_data_4]
    dsimp only
    refine br_t (nI_le (Nat.le_refl _) (by omega)) (gy_here hM h60 hp hpo (fun P v S e => ?_) (fun z => br_t (by decide) (H0 x hb z)))
    have hl : M.length = P.length + S.length + 1 := by rw [e, List.length_append, List.length_cons]; omega
    exact br_f (nI_pos (by omega)) (H1 x v hb (by rw [e]; exact List.mem_append_right _ List.mem_cons_self))
  | cons c S ih =>
    intro P f x e hf hb
    rw [List.length_cons] at hf
    obtain ⟨f, rfl⟩ : ∃ g, f = g + 1 := ⟨f - 1, by omega⟩
    have hl : M.length = P.length + S.length + 1 := by rw [e, List.length_append, List.length_cons]; omega
    have hnd := gy_rp_mid (e ▸ hM)
    have hd3 := hp.1
    have hl3 := gt_len_le c.1
    have hiff := gt_fit_data hp hnd.1
    have next : ∀ x, gt_blw p d (P ++ [c]) x → wY_data_4 post (nI M.length) (nI d) li le va po f x (nI (P.length + 1)) := by
      intro x hb
      have q := ih (P ++ [c]) f x (by rw [e, List.append_assoc]; rfl) (by omega) hb
      rw [show (P ++ [c]).length = P.length + 1 from by rw [List.length_append]; rfl] at q
      exact q
    have skip : ¬ (gt_in p d c.1 ∧ ¬ gt_len c.1 ≤ d) → gt_blw p d (P ++ [c]) x := by
      intro hx
      rw [hiff] at hx
      rcases hb with ⟨hb, h⟩ | ⟨hb, y, hy, h⟩
      · exact Or.inl ⟨hb, gy_mem_snoc (Q := fun e => ¬ (gt_key p d + 1 ≤ e.1 ∧ e.1 < gt_end p d)) h hx⟩
      · exact Or.inr ⟨hb, y, List.mem_append_left _ hy, h⟩
    rw [wY_data_4]
    dsimp only
    refine br_f (nI_ge (by omega) (by omega)) (gy_begins (by omega) hnd hp hpo (fun z => ?_) (fun z => ?_))
    · rw [nI_clamp (show P.length < 2 ^ 31 by omega), hnd.2.1]
      refine br_f (by decide) ⟨vp_in_nI (by omega) (by omega), pk_le (gt_len c.1) d (fun y => ?_) (fun y => ?_)⟩
      · exact nm_r (nI_1 _) (next x (skip (fun w => w.2 y)))
      · exact nm_r (nI_1 _) (next 10 (Or.inr ⟨rfl, c, List.mem_append_right _ List.mem_cons_self, hiff.mp ⟨z, by omega⟩⟩))
    · exact br_t rfl (nm_r (nI_1 _) (next x (skip (fun w => z w.1))))
theorem gy_data {post : Int32 → Prop} {p : Nat → Nat} {d : Nat} {M : List gt_E} (hM : gy_rp li le va 0 M) (h60 : M.length ≤ 60) (hp : gt_pp p d) (hpo : gy_pt p d po) (H0 : ∀ x, gt_blw p d M x → (∀ e, e ∈ M → e.1 ≠ gt_key p d) → post x) (H1 : ∀ x v, gt_blw p d M x → (gt_key p d, v) ∈ M → post (x + 1)) : wpY_data post (nI M.length, nI d, li, le, va, po) :=
  ⟨M.length + 1, gy_data4 hM h60 hp hpo H0 H1 M [] (M.length + 1) 0 rfl (by omega) (Or.inl ⟨rfl, fun e he => by simp at he⟩)⟩
/-- the nearest subscript: the w-least one of those that fit -/
def gt_near (n : Nat) (fit : Nat → Prop) (w : Nat → Nat → Prop) (P : List gt_E) (r : Int32) : Prop :=
  (r = -100 ∧ ∀ e, e ∈ P → ¬ fit e.1) ∨ ∃ e, e ∈ P ∧ fit e.1 ∧ r = gt_sI (gt_dig e.1 n) ∧ ∀ x, x ∈ P → fit x.1 → w (gt_dig e.1 n) (gt_dig x.1 n)
theorem gy_nearest7 {post : Int32 → Prop} {p : Nat → Nat} {n lw : Nat} {x3 : Int32} {w : Nat → Nat → Prop} {M : List gt_E} (hM : gy_rp li le va 0 M) (h60 : M.length ≤ 60) (hp : gt_pp p n) (hpo : gy_pt p n po) (hn : n < 3) (hlw : lw ≤ 300)
    (hw : ∀ a b, a ≤ 300 → b ≤ 300 → ((gt_sI a - gt_sI b) * x3 ≤ 0 ↔ w a b)) (wt : ∀ a b c, w a b → w b c → w a c) (wo : ∀ a b, ¬ w a b → w b a)
    (H : ∀ r, gt_near n (fun K => gt_in p n K ∧ n < gt_len K ∧ ¬ w (gt_dig K n) lw) w M r → post r) :
    ∀ (S P : List gt_E) (f : Nat) (r : Int32), M = P ++ S → S.length < f → gt_near n (fun K => gt_in p n K ∧ n < gt_len K ∧ ¬ w (gt_dig K n) lw) w P r → wY_nearest_7 post (nI n) (gt_sI lw) x3 (nI M.length) dd li le va po f r (nI P.length) := by
  intro S
  induction S with
  | nil =>
    intro P f r e hf hb
    obtain ⟨f, rfl⟩ : ∃ g, f = g + 1 := ⟨f - 1, by omega⟩
    rw [List.append_nil] at e
    subst e
    rw [wY_nearest_7]
    dsimp only
    exact br_t (nI_le (Nat.le_refl _) (by omega)) (H r hb)
  | cons c S ih =>
    intro P f r e hf hb
    rw [List.length_cons] at hf
    obtain ⟨f, rfl⟩ : ∃ g, f = g + 1 := ⟨f - 1, by omega⟩
    have hl : M.length = P.length + S.length + 1 := by rw [e, List.length_append, List.length_cons]; omega
    have hnd := gy_rp_mid (e ▸ hM)
    have hl3 := gt_len_le c.1
    have dl := gt_dig_le hnd.1 n
    have next : ∀ r, gt_near n (fun K => gt_in p n K ∧ n < gt_len K ∧ ¬ w (gt_dig K n) lw) w (P ++ [c]) r → wY_nearest_7 post (nI n) (gt_sI lw) x3 (nI M.length) dd li le va po f r (nI (P.length + 1)) := by
      intro r hb
      have q := ih (P ++ [c]) f r (by rw [e, List.append_assoc]; rfl) (by omega) hb
      rw [show (P ++ [c]).length = P.length + 1 from by rw [List.length_append]; rfl] at q
      exact q
    have skip : ¬ (gt_in p n c.1 ∧ n < gt_len c.1 ∧ ¬ w (gt_dig c.1 n) lw) → ∀ x6, wY_nearest_63 post (wY_nearest_7 post (nI n) (gt_sI lw) x3 (nI M.length) dd li le va po f) (nI n) (gt_sI lw) x3 r (nI P.length) x6 (nI M.length) dd li le va po := by
      intro hx x6
      refine br_t rfl (nm_r (nI_1 _) (next r ?_))
      rcases hb with ⟨hb, h⟩ | ⟨y, hy, fy, ey, h⟩
      · exact Or.inl ⟨hb, gy_mem_snoc (Q := fun e => ¬ (gt_in p n e.1 ∧ n < gt_len e.1 ∧ ¬ w (gt_dig e.1 n) lw)) h hx⟩
      · exact Or.inr ⟨y, List.mem_append_left _ hy, fy, ey, gy_mem_snoc (Q := fun e => (gt_in p n e.1 ∧ n < gt_len e.1 ∧ ¬ w (gt_dig e.1 n) lw) → w (gt_dig y.1 n) (gt_dig e.1 n)) h (fun z => absurd z hx)⟩
    rw [wY_nearest_7]
    dsimp only
    rw [gy_adc (s := n) (by omega) hn]
    refine br_f (nI_ge (by omega) (by omega)) ⟨gy_adin (by omega) hn, nm_e (gy_begins (by omega) hnd hp hpo (fun z => ?_) (fun z => br_t rfl (skip (fun y => z y.1) _)))⟩
    rw [nI_clamp (show P.length < 2 ^ 31 by omega), hnd.2.1]
    refine br_f (by decide) ⟨vp_in_nI (by omega) (by omega), pk_le (gt_len c.1) n (fun y => skip (fun q => by omega) _) (fun y => ?_)⟩
    rw [hnd.2.2.2 n y]
    by_cases g : w (gt_dig c.1 n) lw
    · exact br_t ((hw _ _ (by omega) hlw).mpr g) (skip (fun q => q.2.2 g) _)
    · refine br_f (fun q => g ((hw _ _ (by omega) hlw).mp q)) ?_
      have fc : gt_in p n c.1 ∧ n < gt_len c.1 ∧ ¬ w (gt_dig c.1 n) lw := ⟨z, y, g⟩
      have self : w (gt_dig c.1 n) (gt_dig c.1 n) := by
        by_cases q : w (gt_dig c.1 n) (gt_dig c.1 n)
        · exact q
        · exact wo _ _ q
      refine br_f (by decide) ?_
      rcases hb with ⟨hb, h⟩ | ⟨x, hx, fx, ex, h⟩
      · refine br_t hb (nm_r (nI_1 _) (next _ (Or.inr ⟨c, List.mem_append_right _ List.mem_cons_self, fc, rfl, ?_⟩)))
        exact gy_mem_snoc (Q := fun e => (gt_in p n e.1 ∧ n < gt_len e.1 ∧ ¬ w (gt_dig e.1 n) lw) → w (gt_dig c.1 n) (gt_dig e.1 n)) (fun e he q => absurd q (h e he)) (fun _ => self)
      · have hx2 : gt_dig x.1 n ≤ 300 := by
          have hM2 := hM
          rw [e] at hM2
          obtain ⟨i, hi⟩ := List.mem_iff_getElem?.mp hx
          have := gt_dig_le ((gy_rp_app.mp hM2).1 i x hi).1 n
          omega
        subst ex
        refine br_f (gt_sI_ne hx2) ?_
        by_cases q : w (gt_dig x.1 n) (gt_dig c.1 n)
        · refine br_t ((hw _ _ hx2 (by omega)).mpr q) (nm_r (nI_1 _) (next _ (Or.inr ⟨x, List.mem_append_left _ hx, fx, rfl, ?_⟩)))
          exact gy_mem_snoc (Q := fun e => (gt_in p n e.1 ∧ n < gt_len e.1 ∧ ¬ w (gt_dig e.1 n) lw) → w (gt_dig x.1 n) (gt_dig e.1 n)) h (fun _ => q)
        · refine br_f (fun t => q ((hw _ _ hx2 (by omega)).mp t)) (nm_r (nI_1 _) (next _ (Or.inr ⟨c, List.mem_append_right _ List.mem_cons_self, fc, rfl, ?_⟩)))
          exact gy_mem_snoc (Q := fun e => (gt_in p n e.1 ∧ n < gt_len e.1 ∧ ¬ w (gt_dig e.1 n) lw) → w (gt_dig c.1 n) (gt_dig e.1 n)) (fun e he t => wt _ _ _ (wo _ _ q) (h e he t)) (fun _ => self)
theorem gy_nearest {post : Int32 → Prop} {p : Nat → Nat} {n lw : Nat} {x3 : Int32} {w : Nat → Nat → Prop} {M : List gt_E} (hM : gy_rp li le va 0 M) (h60 : M.length ≤ 60) (hp : gt_pp p n) (hpo : gy_pt p n po) (hn : n < 3) (hlw : lw ≤ 300)
    (hw : ∀ a b, a ≤ 300 → b ≤ 300 → ((gt_sI a - gt_sI b) * x3 ≤ 0 ↔ w a b)) (wt : ∀ a b c, w a b → w b c → w a c) (wo : ∀ a b, ¬ w a b → w b a)
    (H : ∀ r, gt_near n (fun K => gt_in p n K ∧ n < gt_len K ∧ ¬ w (gt_dig K n) lw) w M r → post r) : wpY_nearest post (nI M.length, dd, li, le, va, po) (nI n) (gt_sI lw) x3 :=
  ⟨M.length + 1, gy_nearest7 hM h60 hp hpo hn hlw hw wt wo H M [] (M.length + 1) (-100) rfl (by omega) (Or.inl ⟨rfl, fun e he => by simp at he⟩)⟩
end
end
section
/-! the reference stores: set, kill -/
section
variable {nn dd : Int32} {li le va po : Nat → Int32}
/-- the reference holds the nodes of M -/
def gy_Y (M : List gt_E) (nn : Int32) (li le va : Nat → Int32) : Prop := gy_rp li le va 0 M ∧ nn = nI M.length ∧ M.length ≤ 60
def gy_wp (li po : Nat → Int32) (n k : Nat) : Nat → Int32 := fun j => if n * 3 ≤ j ∧ j < n * 3 + k then po (j - n * 3) else li j
theorem gy_wp_0 {n : Nat} : gy_wp li po n 0 = li := funext (fun j => if_neg (by omega))
theorem gy_wp_s {n k : Nat} : upd (gy_wp li po n k) (n * 3 + k) (po k) = gy_wp li po n (k + 1) := by
  funext j
  by_cases h1 : j = n * 3 + k
  · subst h1
    rw [pk_us]
    unfold gy_wp
    rw [if_pos (by omega), show n * 3 + k - n * 3 = k from by omega]
  · rw [pk_un h1]
    unfold gy_wp
    by_cases h2 : n * 3 ≤ j ∧ j < n * 3 + k
    · rw [if_pos h2, if_pos (by omega)]
    · rw [if_neg h2, if_neg (by omega)]
theorem gy_app {p : Nat → Nat} {d : Nat} {v : Int32} {M : List gt_E} (hM : gy_rp li le va 0 M) (hp : gt_pp p d) (hpo : gy_pt p d po) (h0 : 0 < d) : gy_rp (gy_wp li po M.length d) (upd le M.length (nI d)) (upd va M.length v) 0 (M ++ [(gt_key p d, v)]) := by
  refine gy_rp_app.mpr ⟨gy_rp_keep hM (fun j a b => if_neg (by omega)) (fun j a b => pk_un (by omega)) (fun j a b => pk_un (by omega)), ?_⟩
  refine gy_rp_cons.mpr ⟨⟨gt_key_ok hp h0, ?_, ?_, fun k hk => ?_⟩, gy_rp_nil⟩
  · rw [Nat.zero_add, pk_us, gt_key_len hp h0]
  · rw [Nat.zero_add, pk_us]
  · have hd := hp.1
    have hk' : k < gt_len (gt_key p d) := hk
    rw [gt_key_len hp h0] at hk'
    rw [Nat.zero_add]
    show gy_wp li po M.length d (M.length * 3 + k) = gt_sI (gt_dig (gt_key p d) k)
    unfold gy_wp
    rw [if_pos (by omega), show M.length * 3 + k - M.length * 3 = k from by omega, hpo k hk', gt_key_dig hp (by omega), gt_pd_lt hk']
theorem gy_set46 {post : Int32 → SY → Prop} {N d : Nat} {v : Int32} (hN : N < 60) (hd : d ≤ 3) (H : post 0 (nI (N + 1), nI d, gy_wp li po N d, upd le N (nI d), upd va N v, po)) :
    ∀ f k, k ≤ d → d - k < f → wY_set_46 post v (nI N) (nI d) f (nI k) (gy_wp li po N k) le va po := by
  intro f
  induction f with
  | zero => intro k _ h; omega
  | succ f ih =>
    intro k hk hf
    rw [wY_set_46]
    dsimp only
    refine pk_le d k (fun z => ?_) (fun z => ?_)
    · have e : k = d := by omega
      subst e
      rw [nI_clamp (show N < 2 ^ 31 by omega)]
      have v1 : vp_in (nI N) 60 := vp_in_nI hN (by omega)
      exact ⟨v1, nm_e ⟨v1, nm_e (nm_r (nI_1 N) H)⟩⟩
    · rw [gy_adc (s := k) hN (by omega), nI_clamp (show k < 2 ^ 31 by omega)]
      exact ⟨vp_in_nI (by omega) (by omega), gy_adin hN (by omega), nm_r gy_wp_s (nm_r (nI_1 k) (ih (k + 1) (by omega) (by omega)))⟩
theorem gy_upd {M P S : List gt_E} {k : Nat} {w v : Int32} (hM : gy_rp li le va 0 M) (e : M = P ++ (k, w) :: S) : gy_rp li le (upd va P.length v) 0 (P ++ (k, v) :: S) := by
  have h1 := gy_rp_app.mp (e ▸ hM)
  have h2 := gy_rp_cons.mp h1.2
  refine gy_rp_app.mpr ⟨gy_rp_keep h1.1 (fun j a b => rfl) (fun j a b => rfl) (fun j a b => pk_un (by omega)), ?_⟩
  refine gy_rp_cons.mpr ⟨⟨h2.1.1, h2.1.2.1, ?_, h2.1.2.2.2⟩, gy_rp_keep h2.2 (fun j a b => rfl) (fun j a b => rfl) (fun j a b => pk_un (by omega))⟩
  rw [Nat.zero_add, pk_us]
theorem gy_set {post : Int32 → SY → Prop} {p : Nat → Nat} {d : Nat} {v : Int32} {M : List gt_E} (hY : gy_Y M nn li le va) (hnd : gt_nd M) (hp : gt_pp p d) (hpo : gy_pt p d po)
    (H3 : d = 0 → post (-3) (nn, nI d, li, le, va, po)) (H2 : 0 < d → (∀ e, e ∈ M → e.1 ≠ gt_key p d) → M.length = 60 → post (-2) (nn, nI d, li, le, va, po))
    (H1 : ∀ (w : Int32) (M' : List gt_E) (va : Nat → Int32), 0 < d → (gt_key p d, w) ∈ M → gy_Y M' nn li le va → List.Perm M' (gt_put (gt_key p d) v M) → post 1 (nn, nI d, li, le, va, po))
    (H0 : ∀ (M' : List gt_E) (nn : Int32) (li le va : Nat → Int32), 0 < d → (∀ e, e ∈ M → e.1 ≠ gt_key p d) → M.length < 60 → gy_Y M' nn li le va → List.Perm M' (gt_put (gt_key p d) v M) → post 0 (nn, nI d, li, le, va, po)) : wpY_set post (nn, nI d, li, le, va, po) v := by
  obtain ⟨hM, hnn, h60⟩ := hY
  subst hnn
  have hd3 := hp.1
  refine pk_eq d 0 H3 (fun z => ?_)
  have z0 : 0 < d := by omega
  refine gy_here hM h60 hp hpo (fun P w S e => ?_) (fun y => ?_)
  · have hl : M.length = P.length + S.length + 1 := by rw [e, List.length_append, List.length_cons]; omega
    refine br_t (nI_pos' (by omega)) (br_f (nI_pos (by omega)) ?_)
    rw [nI_clamp (show P.length < 2 ^ 31 by omega)]
    refine ⟨vp_in_nI (by omega) (by omega), nm_e (H1 w (P ++ (gt_key p d, v) :: S) _ z0 (by rw [e]; exact List.mem_append_right _ List.mem_cons_self) ⟨gy_upd hM e, ?_, ?_⟩ ?_)⟩
    · rw [List.length_append, List.length_cons]; exact congrArg nI (by omega)
    · rw [List.length_append, List.length_cons]; omega
    · rw [e]; exact gt_put_mid v (e ▸ hnd)
  · refine br_f (by decide) (pk_eq M.length 60 (fun x => H2 z0 y x) (fun x => ?_))
    refine br_t (by decide) ⟨d + 1, ?_⟩
    have q := gy_set46 (post := post) (li := li) (le := le) (va := va) (po := po) (N := M.length) (d := d) (v := v) (by omega) hd3 (H0 (M ++ [(gt_key p d, v)]) _ _ _ _ z0 y (by omega) ⟨gy_app hM hp hpo z0, ?_, ?_⟩ ?_) (d + 1) 0 (by omega) (by omega)
    · rw [gy_wp_0] at q; exact q
    · rw [List.length_append]; rfl
    · rw [List.length_append]
      show M.length + 1 ≤ 60
      omega
    · rw [gt_put_new v y]; exact List.perm_append_singleton _ _
def gt_inb (p : Nat → Nat) (n K : Nat) : Bool := decide (gt_key p n ≤ K ∧ K < gt_end p n)
theorem gt_inb_t {p : Nat → Nat} {n K : Nat} (h : gt_in p n K) : gt_inb p n K = true := decide_eq_true h
theorem gt_inb_f {p : Nat → Nat} {n K : Nat} (h : ¬ gt_in p n K) : gt_inb p n K = false := decide_eq_false h
theorem gt_inb_of {p : Nat → Nat} {n K : Nat} (h : gt_inb p n K = true) : gt_in p n K := of_decide_eq_true (p := gt_key p n ≤ K ∧ K < gt_end p n) h
/-- three cells of node a copied over those of node b -/
def gy_c3 (f : Nat → Int32) (a b k : Nat) : Nat → Int32 := fun j => if b * 3 ≤ j ∧ j < b * 3 + k then f (a * 3 + (j - b * 3)) else f j
theorem gy_c3_0 {f : Nat → Int32} {a b : Nat} : gy_c3 f a b 0 = f := funext (fun j => if_neg (by omega))
theorem gy_c3_s {f : Nat → Int32} {a b k : Nat} (h : b ≤ a) : upd (gy_c3 f a b k) (b * 3 + k) (gy_c3 f a b k (a * 3 + k)) = gy_c3 f a b (k + 1) := by
  funext j
  by_cases h1 : j = b * 3 + k
  · subst h1
    rw [pk_us]
    unfold gy_c3
    rw [if_neg (by omega), if_pos (by omega), show b * 3 + k - b * 3 = k from by omega]
  · rw [pk_un h1]
    unfold gy_c3
    by_cases h2 : b * 3 ≤ j ∧ j < b * 3 + k
    · rw [if_pos h2, if_pos (by omega)]
    · rw [if_neg h2, if_neg (by omega)]
theorem gy_kill26 {post : Int32 → SY → Prop} {J4 : Int32 → Int32 → (Nat → Int32) → (Nat → Int32) → (Nat → Int32) → (Nat → Int32) → Prop} {a b : Nat} (ha : a < 60) (hb : b ≤ a)
    (H : J4 (nI (b + 1)) (nI (a + 1)) (gy_c3 li a b 3) (upd le b (le a)) (upd va b (va a)) po) :
    ∀ f k, k ≤ 3 → 3 - k < f → wY_kill_26 post J4 (nI b) (nI a) nn dd f (nI k) (gy_c3 li a b k) le va po := by
  intro f
  induction f with
  | zero => intro k _ h; omega
  | succ f ih =>
    intro k hk hf
    rw [wY_kill_26]
    dsimp only
    have v1 : vp_in (nI a) 60 := vp_in_nI ha (by omega)
    have v2 : vp_in (nI b) 60 := vp_in_nI (by omega) (by omega)
    refine pk_le 3 k (fun z => ?_) (fun z => ?_)
    · have e : k = 3 := by omega
      subst e
      rw [nI_clamp (show a < 2 ^ 31 by omega), nI_clamp (show b < 2 ^ 31 by omega)]
      exact ⟨v1, v2, nm_e ⟨v1, v2, nm_e (nm_r (nI_1 b) (nm_r (nI_1 a) H))⟩⟩
    · rw [gy_adc (j := a) (s := k) ha z, gy_adc (j := b) (s := k) (by omega) z]
      exact ⟨gy_adin ha z, gy_adin (by omega) z, nm_r (gy_c3_s hb) (nm_r (nI_1 k) (ih (k + 1) (by omega) (by omega)))⟩
theorem gy_kill4 {post : Int32 → SY → Prop} {p : Nat → Nat} {d : Nat} {M : List gt_E} (h60 : M.length ≤ 60) (hp : gt_pp p d) (hpo : gy_pt p d po)
    (H : ∀ li le va : Nat → Int32, gy_rp li le va 0 (M.filter (fun e => !gt_inb p d e.1)) → post (nI (M.length - (M.filter (fun e => !gt_inb p d e.1)).length)) (nI (M.filter (fun e => !gt_inb p d e.1)).length, nI d, li, le, va, po)) :
    ∀ (S P : List gt_E) (f : Nat) (li le va : Nat → Int32), M = P ++ S → S.length < f → gy_rp li le va 0 (P.filter (fun e => !gt_inb p d e.1)) → gy_rp li le va P.length S → wY_kill_4 post (nI M.length) (nI d) f (nI (P.filter (fun e => !gt_inb p d e.1)).length) (nI P.length) li le va po := by
  intro S
  induction S with
  | nil =>
    intro P f li le va e hf r1 _
    obtain ⟨f, rfl⟩ : ∃ g, f = g + 1 := ⟨f - 1, by omega⟩
    rw [List.append_nil] at e
    subst e
    rw [wY_kill_4]
    dsimp only
    exact br_t (nI_le (Nat.le_refl _) (by omega)) (nm_r (pk_sub (List.length_filter_le _ _)) (H _ _ _ r1))
  | cons c S ih =>
    intro P f li le va e hf r1 r2
    rw [List.length_cons] at hf
    obtain ⟨f, rfl⟩ : ∃ g, f = g + 1 := ⟨f - 1, by omega⟩
    have hl : M.length = P.length + S.length + 1 := by rw [e, List.length_append, List.length_cons]; omega
    have r3 := gy_rp_cons.mp r2
    have hle : (P.filter (fun e => !gt_inb p d e.1)).length ≤ P.length := List.length_filter_le _ _
    have hd3 := hp.1
    have hpl : (P ++ [c]).length = P.length + 1 := by rw [List.length_append]; rfl
    rw [wY_kill_4]
    dsimp only
    refine br_f (nI_ge (by omega) (by omega)) (gy_begins (by omega) r3.1 hp hpo (fun z => ?_) (fun z => ?_))
    · have q := ih (P ++ [c]) f li le va (by rw [e, List.append_assoc]; rfl) (by omega)
      rw [List.filter_append, List.filter_cons_of_neg (by rw [gt_inb_t z]; decide), List.filter_nil, List.append_nil, hpl] at q
      exact br_f (by decide) (nm_r (nI_1 _) (q r1 r3.2))
    · refine br_t rfl ⟨4, ?_⟩
      have q := gy_kill26 (post := post) (J4 := wY_kill_4 post (nI M.length) (nI d) f) (nn := nI M.length) (dd := nI d) (li := li) (le := le) (va := va) (po := po) (a := P.length) (b := (P.filter (fun e => !gt_inb p d e.1)).length) (by omega) hle ?_ 4 0 (by omega) (by omega)
      · rw [gy_c3_0] at q; exact q
      · have q := ih (P ++ [c]) f (gy_c3 li P.length (P.filter (fun e => !gt_inb p d e.1)).length 3) (upd le (P.filter (fun e => !gt_inb p d e.1)).length (le P.length)) (upd va (P.filter (fun e => !gt_inb p d e.1)).length (va P.length)) (by rw [e, List.append_assoc]; rfl) (by omega)
        rw [List.filter_append, List.filter_cons_of_pos (by rw [gt_inb_f z]; rfl), List.filter_nil, hpl] at q
        rw [show (P.filter (fun e => !gt_inb p d e.1) ++ [c]).length = (P.filter (fun e => !gt_inb p d e.1)).length + 1 from by rw [List.length_append]; rfl] at q
        have hl3 := gt_len_le c.1
        refine q (gy_rp_app.mpr ⟨gy_rp_keep r1 (fun j a b => if_neg (by omega)) (fun j a b => pk_un (by omega)) (fun j a b => pk_un (by omega)), gy_rp_cons.mpr ⟨?_, gy_rp_nil⟩⟩) (gy_rp_keep r3.2 (fun j a b => if_neg (by omega)) (fun j a b => pk_un (by omega)) (fun j a b => pk_un (by omega)))
        rw [Nat.zero_add]
        refine ⟨r3.1.1, by rw [pk_us]; exact r3.1.2.1, by rw [pk_us]; exact r3.1.2.2.1, fun k hk => ?_⟩
        rw [← r3.1.2.2.2 k hk]
        unfold gy_c3
        rw [if_pos (by omega)]
        exact congrArg li (by omega)
theorem gy_kill {post : Int32 → SY → Prop} {p : Nat → Nat} {d : Nat} {M : List gt_E} (hY : gy_Y M nn li le va) (hp : gt_pp p d) (hpo : gy_pt p d po)
    (H : ∀ (nn : Int32) (li le va : Nat → Int32), gy_Y (M.filter (fun e => !gt_inb p d e.1)) nn li le va → post (nI (M.length - (M.filter (fun e => !gt_inb p d e.1)).length)) (nn, nI d, li, le, va, po)) : wpY_kill post (nn, nI d, li, le, va, po) := by
  obtain ⟨hM, hnn, h60⟩ := hY
  subst hnn
  refine ⟨M.length + 1, gy_kill4 h60 hp hpo (fun li le va hr => H _ li le va ⟨hr, rfl, ?_⟩) M [] (M.length + 1) li le va rfl (by omega) gy_rp_nil hM⟩
  exact Nat.le_trans (List.length_filter_le _ _) h60
end
end
section
/-! how many nodes puts make -/
def gt_abs (L : List gt_E) (k : Nat) : Bool := L.all (fun e => decide (e.1 ≠ k))
theorem gt_abs_t {L : List gt_E} {k : Nat} (h : ∀ e, e ∈ L → e.1 ≠ k) : gt_abs L k = true := List.all_eq_true.mpr (fun e he => decide_eq_true (h e he))
theorem gt_abs_of {L : List gt_E} {k : Nat} (h : gt_abs L k = true) : ∀ e, e ∈ L → e.1 ≠ k := fun e he => of_decide_eq_true (List.all_eq_true.mp h e he)
theorem gt_abs_f {L : List gt_E} {k : Nat} {v : Int32} (h : (k, v) ∈ L) : gt_abs L k = false := by
  cases q : gt_abs L k with
  | false => rfl
  | true => exact absurd rfl (gt_abs_of q _ h)
theorem gt_abs_perm {L M : List gt_E} (h : List.Perm L M) (k : Nat) : gt_abs L k = gt_abs M k := List.Perm.all_eq h
theorem gt_abs_put {L : List gt_E} {k j : Nat} {v : Int32} (h : k ≠ j) : gt_abs (gt_put k v L) j = gt_abs L j := by
  rw [Bool.eq_iff_iff]
  constructor
  · intro z
    refine gt_abs_t (fun e he q => ?_)
    refine gt_abs_of z e ?_ q
    exact List.mem_cons_of_mem _ (List.mem_filter.mpr ⟨he, decide_eq_true (fun y => h (y.symm.trans q))⟩)
  · intro z
    refine gt_abs_t (fun e he => ?_)
    rcases List.mem_cons.mp he with y | y
    · rw [y]; exact h
    · exact gt_abs_of z e (List.mem_filter.mp y).1
theorem gt_put_len {L : List gt_E} {k : Nat} (v : Int32) (h : gt_nd L) : (gt_put k v L).length = L.length + if gt_abs L k = true then 1 else 0 := by
  by_cases q : gt_abs L k = true
  · rw [if_pos q, gt_put_new v (gt_abs_of q)]; rfl
  · rw [if_neg q]
    have : ∃ w, (k, w) ∈ L := by
      refine Classical.byContradiction (fun z => q (gt_abs_t (fun e he y => z ⟨e.2, ?_⟩)))
      rw [← y]; exact he
    obtain ⟨w, hw⟩ := this
    obtain ⟨P, S, e⟩ := List.append_of_mem hw
    subst e
    rw [← (gt_put_mid v h).length_eq]
    simp only [List.length_append, List.length_cons]; omega
def gt_fr (f : Nat → Nat) (ms L : List gt_E) : Nat := ms.countP (fun m => gt_abs L (f m.1))
theorem gt_fr_perm (f : Nat → Nat) {ms ns L M : List gt_E} (h : List.Perm ms ns) (g : List.Perm L M) : gt_fr f ms L = gt_fr f ns M := by
  unfold gt_fr
  rw [h.countP_eq]
  exact congrArg (fun q => List.countP q ns) (funext (fun m => gt_abs_perm g _))
theorem gt_fr_put {f : Nat → Nat} {k : Nat} {v : Int32} {L : List gt_E} : ∀ {ms : List gt_E}, (∀ m, m ∈ ms → k ≠ f m.1) → gt_fr f ms (gt_put k v L) = gt_fr f ms L
  | [], _ => rfl
  | m :: ms, h => by
    have q := gt_fr_put (v := v) (L := L) (ms := ms) (fun x hx => h x (List.mem_cons_of_mem _ hx))
    unfold gt_fr at q ⊢
    rw [List.countP_cons, List.countP_cons, q, gt_abs_put (h m List.mem_cons_self)]
theorem gt_puts_len {f : Nat → Nat} : ∀ {ms L : List gt_E}, gt_nd (ms.map (fun m => (f m.1, m.2))) → gt_nd L → (gt_puts f ms L).length = L.length + gt_fr f ms L
  | [], L, _, _ => rfl
  | m :: ms, L, h, g => by
    have h2 := List.pairwise_cons.mp h
    have q := gt_puts_len (ms := ms) (L := gt_put (f m.1) m.2 L) h2.2 (gt_put_nd _ _ g)
    rw [gt_fr_put (fun x hx => h2.1 (f x.1, x.2) (List.mem_map.mpr ⟨x, hx, rfl⟩)), gt_put_len m.2 g] at q
    show (gt_puts f ms (gt_put (f m.1) m.2 L)).length = _
    rw [q]
    unfold gt_fr
    rw [List.countP_cons]
    omega
theorem gt_puts_snoc {f : Nat → Nat} {m : gt_E} : ∀ {ms L : List gt_E}, gt_puts f (ms ++ [m]) L = gt_put (f m.1) m.2 (gt_puts f ms L)
  | [], L => rfl
  | x :: ms, L => gt_puts_snoc (ms := ms) (L := gt_put (f x.1) x.2 L)
theorem gt_puts_nd {f : Nat → Nat} : ∀ {ms L : List gt_E}, gt_nd L → gt_nd (gt_puts f ms L)
  | [], _, h => h
  | x :: ms, _, h => gt_puts_nd (ms := ms) (gt_put_nd _ _ h)
theorem gt_room {f : Nat → Nat} {P S L : List gt_E} {m : gt_E} (h : gt_nd ((P ++ m :: S).map (fun m => (f m.1, m.2)))) (g : gt_nd L) (h60 : L.length + gt_fr f (P ++ m :: S) L ≤ 60) (ha : ∀ e, e ∈ gt_puts f P L → e.1 ≠ f m.1) : (gt_puts f P L).length < 60 := by
  have e : P ++ m :: S = (P ++ [m]) ++ S := by rw [List.append_assoc]; rfl
  rw [e, List.map_append] at h
  have h2 := (List.pairwise_append.mp h).1
  have q := gt_puts_len h2 g
  rw [gt_puts_snoc, gt_put_new m.2 ha, List.length_cons] at q
  have : gt_fr f (P ++ m :: S) L = gt_fr f (P ++ [m]) L + gt_fr f S L := by
    unfold gt_fr; rw [e, List.countP_append]
  omega
theorem gt_cut_uniq {P S P' S' : List gt_E} {k : Nat} (e : P ++ S = P' ++ S') (a : ∀ e, e ∈ P → e.1 < k) (b : ∀ e, e ∈ S → k ≤ e.1) (a' : ∀ e, e ∈ P' → e.1 < k) (b' : ∀ e, e ∈ S' → k ≤ e.1) : P = P' ∧ S = S' := by
  have h1 : (P ++ S).filter (fun e => decide (e.1 < k)) = P := gt_fil_cut (fun e he => decide_eq_true (a e he)) (fun e he => decide_eq_false (Nat.not_lt.mpr (b e he)))
  have h2 : (P' ++ S').filter (fun e => decide (e.1 < k)) = P' := gt_fil_cut (fun e he => decide_eq_true (a' e he)) (fun e he => decide_eq_false (Nat.not_lt.mpr (b' e he)))
  have h3 : P = P' := by rw [← h1, e, h2]
  subst h3
  exact ⟨rfl, List.append_cancel_left e⟩
end
section
/-! the reference: twin, place, merge -/
section
variable {nn dd : Int32} {li le va po : Nat → Int32}
theorem gy_tw0 {post : Int32 → Prop} {J3 : Int32 → Prop} {x2 x3 : Int32} {i j : Nat} {e : gt_E} (hi : i < 60) (hnd : gy_nd li le va i e) (H : J3 (nI (j + 1))) :
    ∀ f k, k ≤ gt_len e.1 → gt_len e.1 - k < f → wY_twin_38 post J3 (nI i) x2 x3 (nI j) nn dd li le va po f 0 (nI k) := by
  have hl3 := gt_len_le e.1
  intro f
  induction f with
  | zero => intro k _ h; omega
  | succ f ih =>
    intro k hk hf
    rw [wY_twin_38]
    dsimp only
    rw [nI_clamp (show i < 2 ^ 31 by omega), hnd.2.1]
    refine ⟨vp_in_nI hi (by omega), pk_le (gt_len e.1) k (fun z => br_t rfl (nm_r (nI_1 j) H)) (fun z => br_t rfl (nm_r (nI_1 k) (ih (k + 1) (by omega) (by omega))))⟩
theorem gy_tw1 {post : Int32 → Prop} {J3 : Int32 → Prop} {p : Nat → Nat} {n s i j : Nat} {e c : gt_E} (hp : gt_pp p (n + 1)) (hs : 1 ≤ s ∧ s ≤ 101) (hin : gt_in p (n + 1) e.1) (hi : i < 60) (hj : j < 60) (hnd : gy_nd li le va i e) (hnc : gy_nd li le va j c) (hlc : gt_len c.1 = gt_len e.1)
    (H1 : c.1 = gt_tg p n s e.1 → post (nI j)) (H0 : c.1 ≠ gt_tg p n s e.1 → J3 (nI (j + 1))) :
    ∀ f k, k ≤ gt_len e.1 → gt_len e.1 - k < f → (∀ m, m < k → gt_dig c.1 m = if m = n then s else gt_dig e.1 m) → wY_twin_38 post J3 (nI i) (nI n) (gt_sI s) (nI j) nn dd li le va po f 1 (nI k) := by
  have hl3 := gt_len_le e.1
  have hd3 := hp.1
  have hiff := gt_twin_iff hp hs hnd.1 hin hnc.1
  intro f
  induction f with
  | zero => intro k _ h; omega
  | succ f ih =>
    intro k hk hf hq
    rw [wY_twin_38]
    dsimp only
    rw [nI_clamp (show i < 2 ^ 31 by omega), hnd.2.1]
    refine ⟨vp_in_nI hi (by omega), pk_le (gt_len e.1) k (fun z => br_f (by decide) (H1 (hiff.mp ⟨hlc, fun m hm => hq m (by omega)⟩))) (fun z => br_f (by decide) ?_)⟩
    rw [gy_adc (j := j) (s := k) hj (by omega), hnc.2.2.2 k (by omega)]
    refine ⟨gy_adin hj (by omega), ?_⟩
    have dl1 := gt_dig_le hnc.1 k
    have dl2 := gt_dig_le hnd.1 k
    have go : ∀ t : Nat, t ≤ 300 → (t = if k = n then s else gt_dig e.1 k) → wY_twin_87 post J3 (wY_twin_38 post J3 (nI i) (nI n) (gt_sI s) (nI j) nn dd li le va po f) (nI i) (nI n) (gt_sI s) (nI j) (nI k) (gt_sI t) (gt_sI (gt_dig c.1 k)) nn dd li le va po := by
      intro t ht et
      unfold wY_twin_87
      by_cases y : gt_dig c.1 k = t
      · refine br_t (by rw [y]) (nm_r (nI_1 k) (ih (k + 1) (by omega) (by omega) (fun m hm => ?_)))
        by_cases w : m = k
        · subst w; rw [y, et]
        · exact hq m (by omega)
      · refine br_f (by rw [gt_sI_eq (by omega) ht]; exact y) (nm_r (nI_1 k) (gy_tw0 hi hnd (H0 (fun w => y ?_)) f (k + 1) (by omega) (by omega)))
        rw [(hiff.mpr w).2 k z, et]
    refine pk_eq k n (fun y => go s (by omega) (by rw [if_pos y])) (fun y => ?_)
    rw [gy_adc (j := i) (s := k) hi (by omega), hnd.2.2.2 k z]
    exact ⟨gy_adin hi (by omega), go _ (by omega) (by rw [if_neg y])⟩
theorem gy_twin3 {post : Int32 → Prop} {p : Nat → Nat} {n s i : Nat} {e : gt_E} {M : List gt_E} (hM : gy_rp li le va 0 M) (h60 : M.length ≤ 60) (hp : gt_pp p (n + 1)) (hs : 1 ≤ s ∧ s ≤ 101) (hin : gt_in p (n + 1) e.1) (hi : i < 60) (hnd : gy_nd li le va i e)
    (H1 : ∀ P v S, M = P ++ (gt_tg p n s e.1, v) :: S → post (nI P.length)) (H0 : (∀ x, x ∈ M → x.1 ≠ gt_tg p n s e.1) → post (-1)) :
    ∀ (S P : List gt_E) (f : Nat), M = P ++ S → (∀ x, x ∈ P → x.1 ≠ gt_tg p n s e.1) → S.length < f → wY_twin_3 post (nI i) (nI n) (gt_sI s) (nI M.length) dd li le va po f (nI P.length) := by
  have hl3 := gt_len_le e.1
  intro S
  induction S with
  | nil =>
    intro P f eM hP hf
    obtain ⟨f, rfl⟩ : ∃ g, f = g + 1 := ⟨f - 1, by omega⟩
    rw [List.append_nil] at eM
    subst eM
    rw [wY_twin_3]
    dsimp only
    exact br_t (nI_le (Nat.le_refl _) (by omega)) (H0 hP)
  | cons c S ih =>
    intro P f eM hP hf
    rw [List.length_cons] at hf
    obtain ⟨f, rfl⟩ : ∃ g, f = g + 1 := ⟨f - 1, by omega⟩
    have hl : M.length = P.length + S.length + 1 := by rw [eM, List.length_append, List.length_cons]; omega
    have hnc := gy_rp_mid (eM ▸ hM)
    have hlc3 := gt_len_le c.1
    have next : c.1 ≠ gt_tg p n s e.1 → wY_twin_3 post (nI i) (nI n) (gt_sI s) (nI M.length) dd li le va po f (nI (P.length + 1)) := by
      intro hne
      have q := ih (P ++ [c]) f (by rw [eM, List.append_assoc]; rfl) (gy_mem_snoc hP hne) (by omega)
      rw [List.length_append] at q; exact q
    rw [wY_twin_3]
    dsimp only
    rw [nI_clamp (show P.length < 2 ^ 31 by omega), nI_clamp (show i < 2 ^ 31 by omega), hnc.2.1, hnd.2.1]
    refine br_f (nI_ge (by omega) (by omega)) ⟨vp_in_nI (by omega) (by omega), vp_in_nI hi (by omega), pk_eq (gt_len c.1) (gt_len e.1) (fun z => ?_) (fun z => ?_)⟩
    · refine ⟨gt_len e.1 + 1, gy_tw1 hp hs hin hi (by omega) hnd hnc z (fun y => ?_) next (gt_len e.1 + 1) 0 (by omega) (by omega) (fun m hm => by omega)⟩
      obtain ⟨c1, c2⟩ := c
      dsimp only at y
      subst y
      exact H1 P c2 S eM
    · refine ⟨gt_len e.1 + 1, gy_tw0 hi hnd (next (fun y => z ?_)) (gt_len e.1 + 1) 0 (by omega) (by omega)⟩
      exact ((gt_twin_iff hp hs hnd.1 hin hnc.1).mpr y).1
theorem gy_twin {post : Int32 → Prop} {p : Nat → Nat} {n s i : Nat} {e : gt_E} {M : List gt_E} (hM : gy_rp li le va 0 M) (h60 : M.length ≤ 60) (hp : gt_pp p (n + 1)) (hs : 1 ≤ s ∧ s ≤ 101) (hin : gt_in p (n + 1) e.1) (hi : i < 60) (hnd : gy_nd li le va i e)
    (H1 : ∀ P v S, M = P ++ (gt_tg p n s e.1, v) :: S → post (nI P.length)) (H0 : (∀ x, x ∈ M → x.1 ≠ gt_tg p n s e.1) → post (-1)) : wpY_twin post (nI M.length, dd, li, le, va, po) (nI i) (nI n) (gt_sI s) :=
  ⟨M.length + 1, gy_twin3 hM h60 hp hs hin hi hnd H1 H0 M [] (M.length + 1) rfl (fun x hx => by simp at hx) (by omega)⟩
/-- node i's cells with v at place n, into those of node b -/
def gy_pc (f : Nat → Int32) (i b n : Nat) (v : Int32) (k : Nat) : Nat → Int32 := fun j => if b * 3 ≤ j ∧ j < b * 3 + k then (if j - b * 3 = n then v else f (i * 3 + (j - b * 3))) else f j
theorem gy_pc_0 {f : Nat → Int32} {i b n : Nat} {v : Int32} : gy_pc f i b n v 0 = f := funext (fun j => if_neg (by omega))
theorem gy_pc_s {f : Nat → Int32} {i b n k : Nat} {v x : Int32} (hx : x = if k = n then v else f (i * 3 + k)) : upd (gy_pc f i b n v k) (b * 3 + k) x = gy_pc f i b n v (k + 1) := by
  funext j
  by_cases h1 : j = b * 3 + k
  · subst h1
    rw [pk_us, hx]
    unfold gy_pc
    rw [if_pos (show b * 3 ≤ b * 3 + k ∧ b * 3 + k < b * 3 + (k + 1) by omega), show b * 3 + k - b * 3 = k from by omega]
  · rw [pk_un h1]
    unfold gy_pc
    by_cases h2 : b * 3 ≤ j ∧ j < b * 3 + k
    · rw [if_pos h2, if_pos (show b * 3 ≤ j ∧ j < b * 3 + (k + 1) by omega)]
    · rw [if_neg h2, if_neg (show ¬ (b * 3 ≤ j ∧ j < b * 3 + (k + 1)) by omega)]
theorem gy_place96 {post : SY → Prop} {i b : Nat} (hi : i < 60) (hb : b < 60) (H : post (nn, dd, li, le, upd va b (va i), po)) : wY_place_96 post (nI i) (nI b) nn dd li le va po := by
  unfold wY_place_96
  rw [nI_clamp (show i < 2 ^ 31 by omega), nI_clamp (show b < 2 ^ 31 by omega)]
  exact ⟨vp_in_nI hi (by omega), vp_in_nI hb (by omega), nm_e H⟩
theorem gy_place25 {post : SY → Prop} {i b n : Nat} {v : Int32} (hib : i < b) (hb : b < 60) (hn : n < 3) (H : post (nI (b + 1), nI (n + 1), gy_pc li i b n v 3, upd le b (le i), upd va b (va i), po)) :
    ∀ f k, k ≤ 3 → 3 - k < f → wY_place_25 post (nI i) v (nI b) (nI b) (nI (n + 1)) f (nI k) (gy_pc li i b n v k) le va po := by
  intro f
  induction f with
  | zero => intro k _ h; omega
  | succ f ih =>
    intro k hk hf
    rw [wY_place_25]
    dsimp only
    refine pk_le 3 k (fun z => ?_) (fun z => ?_)
    · have e : k = 3 := by omega
      subst e
      rw [nI_clamp (show i < 2 ^ 31 by omega), nI_clamp (show b < 2 ^ 31 by omega)]
      exact ⟨vp_in_nI (by omega) (by omega), vp_in_nI hb (by omega), nm_e (nm_r (nI_1 b) (gy_place96 (by omega) hb H))⟩
    · rw [nI_pred]
      have v1 : vp_in ((nI b * 3) + nI k) 180 := gy_adin hb z
      have v2 : vp_in ((nI i * 3) + nI k) 180 := gy_adin (by omega) z
      refine pk_eq k n (fun y => ?_) (fun y => ?_)
      · rw [gy_adc (j := b) (s := k) hb z]
        exact ⟨v1, nm_r (gy_pc_s (by rw [if_pos y])) (nm_r (nI_1 k) (ih (k + 1) (by omega) (by omega)))⟩
      · rw [gy_adc (j := b) (s := k) hb z, gy_adc (j := i) (s := k) (by omega) z]
        have ei : gy_pc li i b n v k (i * 3 + k) = li (i * 3 + k) := if_neg (by omega)
        rw [ei]
        exact ⟨v2, v1, nm_r (gy_pc_s (by rw [if_neg y])) (nm_r (nI_1 k) (ih (k + 1) (by omega) (by omega)))⟩
theorem gy_place {post : SY → Prop} {p : Nat → Nat} {n s i : Nat} {e : gt_E} {M : List gt_E} (hY : gy_Y M nn li le va) (hp : gt_pp p (n + 1)) (hs : 1 ≤ s ∧ s ≤ 101) (hin : gt_in p (n + 1) e.1) (he : M[i]? = some e)
    (h60 : (∀ x, x ∈ M → x.1 ≠ gt_tg p n s e.1) → M.length < 60)
    (Hs : ∀ (P : List gt_E) (w : Int32) (S : List gt_E) (va : Nat → Int32), M = P ++ (gt_tg p n s e.1, w) :: S → gy_Y (P ++ (gt_tg p n s e.1, e.2) :: S) nn li le va → post (nn, nI (n + 1), li, le, va, po))
    (Ha : ∀ (nn : Int32) (li le va : Nat → Int32), (∀ x, x ∈ M → x.1 ≠ gt_tg p n s e.1) → gy_Y (M ++ [(gt_tg p n s e.1, e.2)]) nn li le va → post (nn, nI (n + 1), li, le, va, po)) : wpY_place post (nn, nI (n + 1), li, le, va, po) (nI i) (gt_sI s) := by
  obtain ⟨hM, hnn, hle⟩ := hY
  subst hnn
  have hi := gt_idx he
  have hd3 := hp.1
  have hnd := hM i e he
  rw [Nat.zero_add] at hnd
  unfold wpY_place
  dsimp only
  rw [nI_pred]
  refine gy_twin hM hle hp hs hin (by omega) hnd (fun P w S eM => ?_) (fun hne => ?_)
  · have hl : M.length = P.length + S.length + 1 := by rw [eM, List.length_append, List.length_cons]; omega
    refine br_t (nI_pos' (by omega)) (gy_place96 (by omega) (by omega) (Hs P w S _ eM ⟨?_, ?_, ?_⟩))
    · rw [hnd.2.2.1]; exact gy_upd hM eM
    · rw [List.length_append, List.length_cons]; exact congrArg nI (by omega)
    · rw [List.length_append, List.length_cons]; omega
  · refine br_f (by decide) ⟨4, ?_⟩
    have hlt := h60 hne
    have ⟨ok, hlen⟩ := gt_tg_ok hp hs hnd.1 hin
    have hl3 := gt_len_le e.1
    have q := gy_place25 (post := post) (li := li) (le := le) (va := va) (po := po) (i := i) (b := M.length) (n := n) (v := gt_sI s) hi hlt (by omega) (Ha _ _ _ _ hne ⟨gy_rp_app.mpr ⟨gy_rp_keep hM (fun j a b => if_neg (by omega)) (fun j a b => pk_un (by omega)) (fun j a b => pk_un (by omega)), gy_rp_cons.mpr ⟨⟨ok, ?_, ?_, fun k hk => ?_⟩, gy_rp_nil⟩⟩, ?_, ?_⟩) 4 0 (by omega) (by omega)
    · rw [gy_pc_0] at q; exact q
    · rw [Nat.zero_add, pk_us, hnd.2.1]
      show nI (gt_len e.1) = nI (gt_len (gt_tg p n s e.1))
      rw [hlen]
    · rw [Nat.zero_add, pk_us]; exact hnd.2.2.1
    · have hk2 : k < gt_len (gt_tg p n s e.1) := hk
      rw [hlen] at hk2
      rw [Nat.zero_add]
      show gy_pc li i M.length n (gt_sI s) 3 (M.length * 3 + k) = gt_sI (gt_dig (gt_tg p n s e.1) k)
      unfold gy_pc
      rw [if_pos (show M.length * 3 ≤ M.length * 3 + k ∧ M.length * 3 + k < M.length * 3 + 3 by omega), show M.length * 3 + k - M.length * 3 = k from by omega, (gt_tg_dig hp hs hnd.1 hin).2 k (by omega)]
      by_cases y : k = n
      · rw [if_pos y, if_pos y]
      · rw [if_neg y, if_neg y]; exact hnd.2.2.2 k hk2
    · rw [List.length_append]; rfl
    · rw [List.length_append]
      show M.length + 1 ≤ 60
      omega
end
end
section
section
variable {nn dd : Int32} {li le va po : Nat → Int32}
theorem gt_sI_good {s : Nat} (hs : 1 ≤ s ∧ s ≤ 101) : ¬ (gt_sI s < -50 ∨ ¬ gt_sI s ≤ 50) := by
  have e := gt_sI_toInt (n := s) (by omega)
  rw [Int32.lt_iff_toInt_lt, Int32.le_iff_toInt_le, e, show (-50 : Int32).toInt = -50 from by decide, show (50 : Int32).toInt = 50 from by decide]
  omega
def gt_ib (p : Nat → Nat) (d : Nat) : gt_E → Bool := fun e => gt_inb p d e.1
theorem gt_fr_snoc {f : Nat → Nat} {P L : List gt_E} {c : gt_E} : gt_fr f (P ++ [c]) L = gt_fr f P L + if gt_abs L (f c.1) = true then 1 else 0 := by
  unfold gt_fr
  rw [List.countP_append, List.countP_cons, List.countP_nil, Nat.zero_add]
theorem gt_fr_le {f : Nat → Nat} {P L : List gt_E} : gt_fr f P L ≤ P.length := List.countP_le_length
theorem gy_merge33 {post : Int32 → SY → Prop} {p : Nat → Nat} {n s : Nat} {M : List gt_E} (hM : gy_rp li le va 0 M) (h60 : M.length ≤ 60) (hp : gt_pp p (n + 1)) (hpo : gy_pt p (n + 1) po) (hs : 1 ≤ s ∧ s ≤ 101)
    (H1 : M.length + gt_fr (gt_tg p n s) (M.filter (gt_ib p (n + 1))) M ≤ 60 → ∃ n95 : Nat, wY_merge_95 post (gt_sI s) (nI M.length) (nI (M.filter (gt_ib p (n + 1))).length) n95 0 (nI M.length) (nI (n + 1)) li le va po)
    (H2 : 60 < M.length + gt_fr (gt_tg p n s) (M.filter (gt_ib p (n + 1))) M → post (-2) (nI M.length, nI (n + 1), li, le, va, po)) :
    ∀ (S P : List gt_E) (f : Nat), M = P ++ S → S.length < f → wY_merge_33 post (gt_sI s) (nI M.length) (nI M.length) (nI (n + 1)) li le va po f (nI (P.filter (gt_ib p (n + 1))).length) (nI (gt_fr (gt_tg p n s) (P.filter (gt_ib p (n + 1))) M)) (nI P.length) := by
  intro S
  induction S with
  | nil =>
    intro P f eM hf
    obtain ⟨f, rfl⟩ : ∃ g, f = g + 1 := ⟨f - 1, by omega⟩
    rw [List.append_nil] at eM
    subst eM
    have hfl : (M.filter (gt_ib p (n + 1))).length ≤ M.length := List.length_filter_le _ _
    have hfr : gt_fr (gt_tg p n s) (M.filter (gt_ib p (n + 1))) M ≤ (M.filter (gt_ib p (n + 1))).length := gt_fr_le
    rw [wY_merge_33]
    dsimp only
    rw [nI_add]
    exact br_t (nI_le (Nat.le_refl _) (by omega)) (pk_le (M.length + gt_fr (gt_tg p n s) (M.filter (gt_ib p (n + 1))) M) 60 H1 H2)
  | cons c S ih =>
    intro P f eM hf
    rw [List.length_cons] at hf
    obtain ⟨f, rfl⟩ : ∃ g, f = g + 1 := ⟨f - 1, by omega⟩
    have hl : M.length = P.length + S.length + 1 := by rw [eM, List.length_append, List.length_cons]; omega
    have hnd := gy_rp_mid (eM ▸ hM)
    have hd3 := hp.1
    have q := ih (P ++ [c]) f (by rw [eM, List.append_assoc]; rfl) (by omega)
    rw [show (P ++ [c]).length = P.length + 1 from by rw [List.length_append]; rfl, List.filter_append] at q
    rw [wY_merge_33]
    dsimp only
    refine br_f (nI_ge (by omega) (by omega)) (gy_begins (by omega) hnd hp hpo (fun z => ?_) (fun z => ?_))
    · rw [List.filter_cons_of_pos (p := gt_ib p (n + 1)) (gt_inb_t z), List.filter_nil, gt_fr_snoc, List.length_append] at q
      rw [nI_pred]
      refine br_f (by decide) (nm_r (nI_1 _) (gy_twin hM h60 hp hs z (by omega) hnd (fun P1 v S1 e1 => ?_) (fun y => ?_)))
      · have hl1 : M.length = P1.length + S1.length + 1 := by rw [e1, List.length_append, List.length_cons]; omega
        rw [if_neg (by rw [gt_abs_f (L := M) (v := v) (by rw [e1]; exact List.mem_append_right _ List.mem_cons_self)]; decide), Nat.add_zero] at q
        exact br_t (nI_pos' (by omega)) (nm_r (nI_1 _) q)
      · rw [if_pos (gt_abs_t y)] at q
        exact br_f (by decide) (nm_r (nI_1 _) (nm_r (nI_1 _) q))
    · rw [List.filter_cons_of_neg (p := gt_ib p (n + 1)) (by show ¬ gt_inb p (n + 1) c.1 = true; rw [gt_inb_f z]; decide), List.filter_nil, List.append_nil] at q
      exact br_t rfl (nm_r (nI_1 _) q)
theorem gt_set_get {P S : List gt_E} {x y : gt_E} {j : Nat} (h : j ≠ P.length) : (P ++ x :: S)[j]? = (P ++ y :: S)[j]? := by
  rcases Nat.lt_or_ge j P.length with z | z
  · rw [List.getElem?_append_left z, List.getElem?_append_left z]
  · rw [List.getElem?_append_right z, List.getElem?_append_right z, show j - P.length = (j - P.length - 1) + 1 from by omega, List.getElem?_cons_succ, List.getElem?_cons_succ]
theorem gy_merge95 {post : Int32 → SY → Prop} {p : Nat → Nat} {n s : Nat} {x3 : Int32} {M0 : List gt_E} (hnd0 : gt_nd M0) (hok0 : ∀ e, e ∈ M0 → gt_ok e.1) (hp : gt_pp p (n + 1)) (hpo : gy_pt p (n + 1) po) (hs : 1 ≤ s ∧ s ≤ 101)
    (hdis : gt_nd ((M0.filter (gt_ib p (n + 1))).map (fun m => (gt_tg p n s m.1, m.2)))) (h60 : M0.length + gt_fr (gt_tg p n s) (M0.filter (gt_ib p (n + 1))) M0 ≤ 60)
    (H : ∀ (M : List gt_E) (nn : Int32) (li le va : Nat → Int32), gy_Y M nn li le va → List.Perm M (gt_puts (gt_tg p n s) (M0.filter (gt_ib p (n + 1))) M0) → post x3 (nn, nI (n + 1), li, le, va, po)) :
    ∀ (S P : List gt_E) (f : Nat) (M : List gt_E) (nn : Int32) (li le va : Nat → Int32), M0 = P ++ S → S.length < f → gy_Y M nn li le va → List.Perm M (gt_puts (gt_tg p n s) (P.filter (gt_ib p (n + 1))) M0) → (∀ (j : Nat) (e : gt_E), M0[j]? = some e → ∃ v, M[j]? = some (e.1, v) ∧ (gt_in p (n + 1) e.1 → v = e.2)) → wY_merge_95 post (gt_sI s) (nI M0.length) x3 f (nI P.length) nn (nI (n + 1)) li le va po := by
  intro S
  induction S with
  | nil =>
    intro P f M nn li le va eM hf hY hpm hgt
    obtain ⟨f, rfl⟩ : ∃ g, f = g + 1 := ⟨f - 1, by omega⟩
    rw [List.append_nil] at eM
    subst eM
    rw [wY_merge_95]
    dsimp only
    exact br_t (nI_le (Nat.le_refl _) (by omega)) (H M nn li le va hY hpm)
  | cons c S ih =>
    intro P f M nn li le va eM hf hY hpm hgt
    rw [List.length_cons] at hf
    obtain ⟨f, rfl⟩ : ∃ g, f = g + 1 := ⟨f - 1, by omega⟩
    have hl : M0.length = P.length + S.length + 1 := by rw [eM, List.length_append, List.length_cons]; omega
    have hc0 : M0[P.length]? = some c := by rw [eM, List.getElem?_append_right (Nat.le_refl _), Nat.sub_self]; rfl
    have hcm : c ∈ M0 := List.mem_iff_getElem?.mpr ⟨_, hc0⟩
    obtain ⟨v, hcv, hv⟩ := hgt _ _ hc0
    have hn1 := hY.1 _ _ hcv
    rw [Nat.zero_add] at hn1
    have hndM : gt_nd M := gt_nd_perm hpm.symm (gt_puts_nd hnd0)
    have hpl : (P ++ [c]).length = P.length + 1 := by rw [List.length_append]; rfl
    rw [wY_merge_95]
    dsimp only
    refine br_f (nI_ge (by omega) (by omega)) (gy_begins (by omega) hn1 hp hpo (fun z => ?_) (fun z => ?_))
    · have zc : gt_in p (n + 1) c.1 := z
      have ev : v = c.2 := hv zc
      subst ev
      have hfl : (P ++ [c]).filter (gt_ib p (n + 1)) = P.filter (gt_ib p (n + 1)) ++ [c] := by
        rw [List.filter_append, List.filter_cons_of_pos (p := gt_ib p (n + 1)) (gt_inb_t zc), List.filter_nil]
      have hfl2 : M0.filter (gt_ib p (n + 1)) = P.filter (gt_ib p (n + 1)) ++ c :: S.filter (gt_ib p (n + 1)) := by
        rw [eM, List.filter_append, List.filter_cons_of_pos (p := gt_ib p (n + 1)) (gt_inb_t zc)]
      refine br_f (by decide) (gy_place (e := c) hY hp hs zc hcv (fun y => ?_) (fun P1 w S1 va e1 hY1 => ?_) (fun nn li le va hne hY1 => ?_))
      · rw [hpm.length_eq]
        rw [hfl2] at hdis h60
        exact gt_room hdis hnd0 h60 (fun e he => y e (hpm.mem_iff.mpr he))
      · refine nm_r (nI_1 _) ?_
        have q := ih (P ++ [c]) f (P1 ++ (gt_tg p n s c.1, c.2) :: S1) nn li le va (by rw [eM, List.append_assoc]; rfl) (by omega) hY1 ?_ ?_
        · rw [hpl] at q; exact q
        · rw [hfl, gt_puts_snoc]
          refine List.Perm.trans (gt_put_mid c.2 (e1 ▸ hndM)) ?_
          rw [← e1]
          exact gt_put_perm _ _ hpm
        · intro j e0 he0
          obtain ⟨v0, hj, hv0⟩ := hgt j e0 he0
          by_cases y : j = P1.length
          · subst y
            rw [e1, List.getElem?_append_right (Nat.le_refl _), Nat.sub_self] at hj
            have ej : (gt_tg p n s c.1, w) = (e0.1, v0) := Option.some.inj hj
            have ek : gt_tg p n s c.1 = e0.1 := congrArg Prod.fst ej
            refine ⟨c.2, ?_, fun hi0 => ?_⟩
            · rw [List.getElem?_append_right (Nat.le_refl _), Nat.sub_self, ek]; rfl
            · rw [← ek] at hi0
              have esp : s = p n := by
                refine Classical.byContradiction (fun hne => ?_)
                exact gt_tg_out hp hs (hok0 c hcm) zc hne hi0
              rw [esp, gt_tg_self] at ek
              refine gt_nd_inj hnd0 (k := c.1) hcm ?_
              rw [ek]
              exact List.mem_iff_getElem?.mpr ⟨_, he0⟩
          · refine ⟨v0, ?_, hv0⟩
            rw [gt_set_get y (y := (gt_tg p n s c.1, w)), ← e1]; exact hj
      · refine nm_r (nI_1 _) ?_
        have q := ih (P ++ [c]) f (M ++ [(gt_tg p n s c.1, c.2)]) nn li le va (by rw [eM, List.append_assoc]; rfl) (by omega) hY1 ?_ ?_
        · rw [hpl] at q; exact q
        · rw [hfl, gt_puts_snoc]
          refine List.Perm.trans ?_ (gt_put_perm _ _ hpm)
          rw [gt_put_new c.2 hne]
          exact List.perm_append_singleton _ _
        · intro j e0 he0
          obtain ⟨v0, hj, hv0⟩ := hgt j e0 he0
          exact ⟨v0, gy_get_snoc hj, hv0⟩
    · refine br_t rfl (nm_r (nI_1 _) ?_)
      have q := ih (P ++ [c]) f M nn li le va (by rw [eM, List.append_assoc]; rfl) (by omega) hY ?_ hgt
      · rw [hpl] at q; exact q
      · rw [List.filter_append, List.filter_cons_of_neg (p := gt_ib p (n + 1)) (by show ¬ gt_inb p (n + 1) c.1 = true; rw [gt_inb_f z]; decide), List.filter_nil, List.append_nil]
        exact hpm
theorem gy_ok {M : List gt_E} {o : Nat} (h : gy_rp li le va o M) : ∀ e, e ∈ M → gt_ok e.1 := by
  intro e he
  obtain ⟨i, hi⟩ := List.mem_iff_getElem?.mp he
  exact (h i e hi).1
theorem gt_dis {p : Nat → Nat} {n s : Nat} {M : List gt_E} (hnd : gt_nd M) (hok : ∀ e, e ∈ M → gt_ok e.1) (hp : gt_pp p (n + 1)) (hs : 1 ≤ s ∧ s ≤ 101) : gt_nd ((M.filter (gt_ib p (n + 1))).map (fun m => (gt_tg p n s m.1, m.2))) := by
  refine gt_map_nd _ (List.Pairwise.filter _ hnd) (fun a b ha hb q => ?_)
  have a1 := List.mem_filter.mp ha
  have b1 := List.mem_filter.mp hb
  exact gt_tg_inj hp hs (hok a a1.1) (gt_inb_of a1.2) (hok b b1.1) (gt_inb_of b1.2) q
theorem gy_merge {post : Int32 → SY → Prop} {p : Nat → Nat} {n s : Nat} {M : List gt_E} (hY : gy_Y M nn li le va) (hnd : gt_nd M) (hp : gt_pp p (n + 1)) (hpo : gy_pt p (n + 1) po) (hs : 1 ≤ s ∧ s ≤ 101)
    (H2 : 60 < M.length + gt_fr (gt_tg p n s) (M.filter (gt_ib p (n + 1))) M → post (-2) (nn, nI (n + 1), li, le, va, po))
    (H1 : ∀ (M' : List gt_E) (nn : Int32) (li le va : Nat → Int32), M.length + gt_fr (gt_tg p n s) (M.filter (gt_ib p (n + 1))) M ≤ 60 → gy_Y M' nn li le va → List.Perm M' (gt_puts (gt_tg p n s) (M.filter (gt_ib p (n + 1))) M) → post (nI (M.filter (gt_ib p (n + 1))).length) (nn, nI (n + 1), li, le, va, po)) : wpY_merge post (nn, nI (n + 1), li, le, va, po) (gt_sI s) := by
  have hY0 := hY
  obtain ⟨hM, hnn, h60⟩ := hY
  subst hnn
  have hd3 := hp.1
  refine br_f (nI_ne0 (by omega) (by omega)) (gy_isSub (fun _ _ _ _ => br_f (by decide) ?_) (fun z => absurd z (gt_sI_good hs)))
  refine ⟨M.length + 1, gy_merge33 hM h60 hp hpo hs (fun h => ?_) H2 M [] (M.length + 1) rfl (by omega)⟩
  exact ⟨M.length + 1, gy_merge95 hnd (gy_ok hM) hp hpo hs (gt_dis hnd (gy_ok hM) hp hs) h (fun M' nn li le va => H1 M' nn li le va h) M [] (M.length + 1) M _ li le va rfl (by omega) hY0 (List.Perm.refl _) (fun j e he => ⟨e.2, he, fun _ => rfl⟩)⟩
end
end
section
/-! the component: kill, merge -/
section
variable {dp lv tt lf sl : Int32} {sb sz ks vs mk mv qk qv : Nat → Int32}
theorem gx_kill28 {post : Int32 → SX → Prop} {p : Nat → Nat} {d : Nat} {L0 : List gt_E} (hp : gt_pp p d) (h60 : L0.length ≤ 60)
    (H : ∀ (LL : List (List gt_E)) (lv tt lf sl : Int32) (sz ks vs : Nat → Int32), gt_X LL lv tt sz ks vs → LL.flatten = L0.filter (fun e => !gt_inb p d e.1) → post (nI (L0.length - (L0.filter (fun e => !gt_inb p d e.1)).length)) (dp, lv, tt, lf, sl, sb, sz, ks, vs, mk, mv, qk, qv)) :
    ∀ (f m : Nat) (LL A : List (List gt_E)) (B C : List gt_E) (D : List (List gt_E)) (lv tt : Int32) (sz ks vs : Nat → Int32), m ≤ 60 → 60 - m < f → gt_X LL lv tt sz ks vs → LL.flatten.filter (fun e => !gt_inb p d e.1) = L0.filter (fun e => !gt_inb p d e.1) → L0.length = LL.flatten.length + m → gt_sk LL (gt_key p d) A B C D → wX_kill_28 post (nI (gt_key p d)) (nI (gt_end p d)) f (nI m) (nI m) dp lv tt (nI A.length) (nI B.length) sb sz ks vs mk mv qk qv := by
  have hk := gt_key_lt hp
  have he := gt_end_le hp
  intro f
  induction f with
  | zero => intro m _ _ _ _ _ _ _ _ _ _ _ h; omega
  | succ f ih =>
    intro m LL A B C D lv tt sz ks vs hm hf hX hfi hlen hs
    have hX' := hX
    obtain ⟨hsh, hrp, hlv, htt, h6⟩ := hX'
    have ⟨hfl, hll⟩ := gt_sk_lim hs
    have h32 := hsh.2.1
    have done : (∀ e, e ∈ LL.flatten → ¬ gt_in p d e.1) → post (nI m) (dp, lv, tt, nI A.length, nI B.length, sb, sz, ks, vs, mk, mv, qk, qv) := by
      intro hno
      have e1 : LL.flatten.filter (fun e => !gt_inb p d e.1) = LL.flatten := List.filter_eq_self.mpr (fun e he => by rw [gt_inb_f (hno e he)]; rfl)
      have q := H LL lv tt (nI A.length) (nI B.length) sz ks vs hX (by rw [← hfi, e1])
      rw [← hfi, e1, show L0.length - LL.flatten.length = m from by omega] at q
      exact q
    rw [wX_kill_28]
    dsimp only
    refine pk_le 60 m (fun z => done (fun e he => ?_)) (fun z => ?_)
    · have e0 : LL.flatten = [] := List.eq_nil_of_length_eq_zero (by omega)
      rw [e0] at he; simp at he
    · refine gx_found (D := D) (C := C) (hs.1 ▸ hrp) (by omega) (fun y => ?_) (fun c C' y => ?_)
      · subst y
        have hD := hs.2.2.2 rfl
        subst hD
        refine br_t (nI_le (b := 2097152) he (by omega)) (done (fun e he w => ?_))
        rw [hfl] at he
        rcases List.mem_append.mp he with q | q
        · have := hs.2.1 e q
          have := w.1
          omega
        · simp at q
      · subst y
        have hc : c.1 < 2097152 := hsh.2.2.2.2 c (by rw [hfl]; exact List.mem_append_right _ (List.mem_append_left _ List.mem_cons_self))
        have hck := hs.2.2.1 c (List.mem_append_left _ List.mem_cons_self)
        have hsrt := hsh.2.2.2.1
        rw [hfl] at hsrt
        have hp2 := (gt_srt_app.mp hsrt).2.1
        rw [List.cons_append] at hp2
        refine pk_le (gt_end p d) c.1 (fun w => done (fun e he hin => ?_)) (fun w => ?_)
        · rw [hfl] at he
          have h1 := hin.1
          have h2 := hin.2
          rcases List.mem_append.mp he with q | q
          · have := hs.2.1 e q
            omega
          · rw [List.cons_append] at q
            rcases List.mem_cons.mp q with q | q
            · rw [q] at h2; omega
            · have := (List.pairwise_cons.mp hp2).1 e q
              omega
        · refine gx_removeFound hX hs (fun LL' lv tt lf sl sz ks vs hX1 hfl1 => ?_)
          refine nm_r (nI_1 m) ?_
          refine gx_seek hX1.1 hX1.2.1 hX1.2.2.1 (by omega) (fun A' B' C'' D' hs1 => ?_)
          refine nm_r (nI_1 m) ?_
          refine ih (m + 1) LL' A' B' C'' D' lv tt sz ks vs (by omega) (by omega) hX1 ?_ ?_ hs1
          · have hr : (c :: (C' ++ D.flatten)).filter (fun e => !gt_inb p d e.1) = (C' ++ D.flatten).filter (fun e => !gt_inb p d e.1) := List.filter_cons_of_neg (by rw [gt_inb_t ⟨hck, w⟩]; decide)
            have h2 := @List.filter_append gt_E (fun e => !gt_inb p d e.1) (A.flatten ++ B)
            rw [← hfi, hfl1, hfl, List.cons_append, h2, h2, hr]
          · rw [hlen, hfl1, hfl]
            simp only [List.length_append, List.length_cons]; omega
theorem gx_kill {post : Int32 → SX → Prop} {p : Nat → Nat} {d : Nat} {LL : List (List gt_E)} (hX : gt_X LL lv tt sz ks vs) (hp : gt_pp p d) (hpt : gx_pt p d sb)
    (H : ∀ (LL' : List (List gt_E)) (lv tt lf sl : Int32) (sz ks vs : Nat → Int32), gt_X LL' lv tt sz ks vs → LL'.flatten = LL.flatten.filter (fun e => !gt_inb p d e.1) → post (nI (LL.flatten.length - (LL.flatten.filter (fun e => !gt_inb p d e.1)).length)) (nI d, lv, tt, lf, sl, sb, sz, ks, vs, mk, mv, qk, qv)) : wpX_kill post (nI d, lv, tt, lf, sl, sb, sz, ks, vs, mk, mv, qk, qv) := by
  have hk := gt_key_lt hp
  unfold wpX_kill
  refine gx_keyOf hp.1 hpt (gx_endOf hp.1 hpt (gx_seek hX.1 hX.2.1 hX.2.2.1 (by omega) (fun A B C D hs => ⟨62, ?_⟩)))
  exact gx_kill28 hp hX.2.2.2.2 H 62 0 LL A B C D lv tt sz ks vs (by omega) (by omega) hX rfl rfl hs
theorem gx_merge218 {post : Int32 → SX → Prop} {x4 : Int32} {g : Nat → Nat} {ms L0 : List gt_E} (hq : gt_pk mk mv ms) (hms : ms.length ≤ 60) (hby : ∀ e, e ∈ ms → nI e.1 + x4 = nI (g e.1) ∧ g e.1 < 2097152)
    (hdis : gt_nd (ms.map (fun m => (g m.1, m.2)))) (hnd : gt_nd L0) (h60 : L0.length + gt_fr g ms L0 ≤ 60)
    (H : ∀ (LL : List (List gt_E)) (lv tt lf sl : Int32) (sz ks vs qk qv : Nat → Int32), gt_X LL lv tt sz ks vs → List.Perm LL.flatten (gt_puts g ms L0) → post (nI ms.length) (dp, lv, tt, lf, sl, sb, sz, ks, vs, mk, mv, qk, qv)) :
    ∀ (S P : List gt_E) (f : Nat) (LL : List (List gt_E)) (lv tt lf sl : Int32) (sz ks vs qk qv : Nat → Int32), ms = P ++ S → S.length < f → gt_X LL lv tt sz ks vs → List.Perm LL.flatten (gt_puts g P L0) → wX_merge_218 post x4 (nI ms.length) f (nI P.length) dp lv tt lf sl sb sz ks vs mk mv qk qv := by
  intro S
  induction S with
  | nil =>
    intro P f LL lv tt lf sl sz ks vs qk qv e hf hX hpm
    obtain ⟨f, rfl⟩ : ∃ g, f = g + 1 := ⟨f - 1, by omega⟩
    rw [List.append_nil] at e
    subst e
    rw [wX_merge_218]
    dsimp only
    exact br_t (nI_le (Nat.le_refl _) (by omega)) (H LL lv tt lf sl sz ks vs qk qv hX hpm)
  | cons c S ih =>
    intro P f LL lv tt lf sl sz ks vs qk qv e hf hX hpm
    rw [List.length_cons] at hf
    obtain ⟨f, rfl⟩ : ∃ g, f = g + 1 := ⟨f - 1, by omega⟩
    have hl : ms.length = P.length + S.length + 1 := by rw [e, List.length_append, List.length_cons]; omega
    have hc : ms[P.length]? = some c := by rw [e, List.getElem?_append_right (Nat.le_refl _), Nat.sub_self]; rfl
    have hqc := hq _ _ hc
    have hb := hby c (List.mem_iff_getElem?.mpr ⟨_, hc⟩)
    have hpl : (P ++ [c]).length = P.length + 1 := by rw [List.length_append]; rfl
    have v1 : vp_in (nI P.length) 60 := vp_in_nI (by omega) (by omega)
    rw [wX_merge_218]
    dsimp only
    rw [nI_clamp (show P.length < 2 ^ 31 by omega), hqc.1, hqc.2, hb.1]
    refine br_f (nI_ge (by omega) (by omega)) ⟨v1, v1, ?_⟩
    refine gx_put hX hb.2 (fun hne => ?_) (fun LL' lv tt lf sl sz ks vs qk qv hX1 hpm1 => ?_)
    · rw [hpm.length_eq]
      rw [e] at hdis h60
      exact gt_room hdis hnd h60 (fun x hx => hne x (hpm.mem_iff.mpr hx))
    · refine nm_r (nI_1 _) ?_
      have q := ih (P ++ [c]) f LL' lv tt lf sl sz ks vs qk qv (by rw [e, List.append_assoc]; rfl) (by omega) hX1 ?_
      · rw [hpl] at q; exact q
      · rw [gt_puts_snoc]
        exact List.Perm.trans hpm1 (gt_put_perm _ _ hpm)
theorem gx_merge163 {post : Int32 → SX → Prop} {x4 : Int32} {g : Nat → Nat} {ms : List gt_E} {LL : List (List gt_E)} (hX : gt_X LL lv tt sz ks vs) (hq : gt_pk mk mv ms) (hms : ms.length ≤ 60) (hby : ∀ e, e ∈ ms → nI e.1 + x4 = nI (g e.1) ∧ g e.1 < 2097152)
    (H1 : ∀ lf sl : Int32, LL.flatten.length + gt_fr g ms LL.flatten ≤ 60 → ∃ n218 : Nat, wX_merge_218 post x4 (nI ms.length) n218 0 dp lv tt lf sl sb sz ks vs mk mv qk qv)
    (H2 : ∀ lf sl : Int32, 60 < LL.flatten.length + gt_fr g ms LL.flatten → post (-2) (dp, lv, tt, lf, sl, sb, sz, ks, vs, mk, mv, qk, qv)) :
    ∀ (S P : List gt_E) (f : Nat) (lf sl : Int32), ms = P ++ S → S.length < f → wX_merge_163 post x4 (nI ms.length) f (nI (gt_fr g P LL.flatten)) (nI P.length) dp lv tt lf sl sb sz ks vs mk mv qk qv := by
  have hX' := hX
  obtain ⟨hsh, hrp, hlv, htt, h6⟩ := hX'
  intro S
  induction S with
  | nil =>
    intro P f lf sl e hf
    obtain ⟨f, rfl⟩ : ∃ g, f = g + 1 := ⟨f - 1, by omega⟩
    rw [List.append_nil] at e
    subst e
    have hfr : gt_fr g ms LL.flatten ≤ ms.length := gt_fr_le
    rw [wX_merge_163]
    dsimp only
    rw [show tt + nI (gt_fr g ms LL.flatten) = nI (LL.flatten.length + gt_fr g ms LL.flatten) from by rw [htt, nI_add]]
    exact br_t (nI_le (Nat.le_refl _) (by omega)) (pk_le (LL.flatten.length + gt_fr g ms LL.flatten) 60 (H1 lf sl) (H2 lf sl))
  | cons c S ih =>
    intro P f lf sl e hf
    rw [List.length_cons] at hf
    obtain ⟨f, rfl⟩ : ∃ g, f = g + 1 := ⟨f - 1, by omega⟩
    have hl : ms.length = P.length + S.length + 1 := by rw [e, List.length_append, List.length_cons]; omega
    have hc : ms[P.length]? = some c := by rw [e, List.getElem?_append_right (Nat.le_refl _), Nat.sub_self]; rfl
    have hqc := hq _ _ hc
    have hb := hby c (List.mem_iff_getElem?.mpr ⟨_, hc⟩)
    have hpl : (P ++ [c]).length = P.length + 1 := by rw [List.length_append]; rfl
    rw [wX_merge_163]
    dsimp only
    rw [nI_clamp (show P.length < 2 ^ 31 by omega), hqc.1, hb.1]
    refine br_f (nI_ge (by omega) (by omega)) ⟨vp_in_nI (by omega) (by omega), ?_⟩
    refine gx_present hsh hrp hlv hb.2 (fun A B C D hs hne => ?_) (fun A B w C D hs => ?_)
    · refine br_t rfl (nm_r (nI_1 _) (nm_r (nI_1 _) ?_))
      have q := ih (P ++ [c]) f (nI A.length) (nI B.length) (by rw [e, List.append_assoc]; rfl) (by omega)
      rw [hpl, gt_fr_snoc, if_pos (gt_abs_t hne)] at q
      exact q
    · refine br_f (by decide) (nm_r (nI_1 _) ?_)
      have q := ih (P ++ [c]) f (nI A.length) (nI B.length) (by rw [e, List.append_assoc]; rfl) (by omega)
      rw [hpl, gt_fr_snoc, if_neg (by rw [gt_abs_f (L := LL.flatten) (v := w) (by rw [(gt_sk_lim hs).1]; exact List.mem_append_right _ (List.mem_append_left _ List.mem_cons_self))]; decide), Nat.add_zero] at q
      exact q
theorem gx_merge73 {post : Int32 → SX → Prop} {x4 : Int32} {p : Nat → Nat} {d : Nat} {LL : List (List gt_E)} {Q : List gt_E} (hX : gt_X LL lv tt sz ks vs) (hp : gt_pp p d) (hQ : ∀ e, e ∈ Q → e.1 < gt_key p d)
    (H : ∀ (lf sl : Int32) (mk mv : Nat → Int32), gt_pk mk mv (LL.flatten.filter (gt_ib p d)) → ∃ n163 : Nat, wX_merge_163 post x4 (nI (LL.flatten.filter (gt_ib p d)).length) n163 0 0 dp lv tt lf sl sb sz ks vs mk mv qk qv) :
    ∀ (f : Nat) (P : List gt_E) (k : Nat) (A : List (List gt_E)) (B C : List gt_E) (D : List (List gt_E)) (mk mv : Nat → Int32), 60 - P.length < f → gt_key p d ≤ k → (∀ e, e ∈ P → gt_in p d e.1) → gt_pk mk mv P → gt_sk LL k A B C D → A.flatten ++ B = Q ++ P → wX_merge_73 post (nI (gt_end p d)) x4 f (nI P.length) dp lv tt (nI A.length) (nI B.length) sb sz ks vs mk mv qk qv := by
  have he := gt_end_le hp
  have hX' := hX
  obtain ⟨hsh, hrp, hlv, htt, h6⟩ := hX'
  have h32 := hsh.2.1
  intro f
  induction f with
  | zero => intro P k A B C D mk mv h; omega
  | succ f ih =>
    intro P k A B C D mk mv hf hkk hP hq hs hAB
    have ⟨hfl, hll⟩ := gt_sk_lim hs
    have hlen : LL.flatten.length = Q.length + P.length + (C ++ D.flatten).length := by rw [hfl, hAB, List.length_append, List.length_append]
    have done : (∀ e, e ∈ C ++ D.flatten → ¬ gt_in p d e.1) → ∃ n163 : Nat, wX_merge_163 post x4 (nI P.length) n163 0 0 dp lv tt (nI A.length) (nI B.length) sb sz ks vs mk mv qk qv := by
      intro hno
      have e1 : LL.flatten.filter (gt_ib p d) = P := by
        rw [hfl, hAB, List.append_assoc, List.filter_append, gt_fil_cut (q := gt_ib p d) (fun e he => gt_inb_t (hP e he)) (fun e he => gt_inb_f (hno e he)), List.filter_eq_nil_iff.mpr (fun e he => ?_)]
        · rfl
        · show ¬ gt_inb p d e.1 = true
          rw [gt_inb_f (fun w => by have := hQ e he; have := w.1; omega)]; decide
      have q := H (nI A.length) (nI B.length) mk mv (by rw [e1]; exact hq)
      rw [e1] at q
      exact q
    rw [wX_merge_73]
    dsimp only
    refine pk_le 60 P.length (fun z => done (fun e he => ?_)) (fun z => ?_)
    · have e0 : C ++ D.flatten = [] := List.eq_nil_of_length_eq_zero (by omega)
      rw [e0] at he; simp at he
    · refine gx_found (D := D) (C := C) (hs.1 ▸ hrp) (by omega) (fun y => ?_) (fun c C' y => ?_)
      · subst y
        have hD := hs.2.2.2 rfl
        subst hD
        exact br_t (nI_le (b := 2097152) he (by omega)) (done (fun e he => by simp at he))
      · subst y
        have hc : c.1 < 2097152 := hsh.2.2.2.2 c (by rw [hfl]; exact List.mem_append_right _ (List.mem_append_left _ List.mem_cons_self))
        have hck := hs.2.2.1 c (List.mem_append_left _ List.mem_cons_self)
        have hsrt := hsh.2.2.2.1
        rw [hfl] at hsrt
        have hs12 := gt_srt_app.mp hsrt
        have hp2 := hs12.2.1
        rw [List.cons_append] at hp2
        have hp3 := List.pairwise_cons.mp hp2
        refine pk_le (gt_end p d) c.1 (fun w => done (fun e he hin => ?_)) (fun w => ?_)
        · have h2 := hin.2
          rw [List.cons_append] at he
          rcases List.mem_cons.mp he with q | q
          · rw [q] at h2; omega
          · have := hp3.1 e q
            omega
        · have hm := gt_lf_mid (gt_rp_mid (hs.1 ▸ hrp))
          have hcin : gt_in p d c.1 := ⟨by omega, w⟩
          rw [gx_adc (s := B.length) (by omega) hm.1, hm.2.1, hm.2.2]
          have v1 : vp_in ((nI A.length * 8) + nI B.length) 256 := gx_adin (by omega) hm.1
          have v2 : vp_in (nI P.length) 60 := vp_in_nI (by omega) (by omega)
          rw [nI_clamp (show P.length < 2 ^ 31 by omega)]
          refine ⟨v1, v2, nm_e ⟨v1, v2, nm_e (nm_r (nI_1 _) ?_)⟩⟩
          rw [nI_pred, nI_clamp (show P.length < 2 ^ 31 by omega), pk_us, nI_1]
          refine ⟨v2, ?_⟩
          refine gx_seek hsh hrp hlv (by omega) (fun A' B' C'' D' hs1 => ?_)
          have q := ih (P ++ [c]) (c.1 + 1) A' B' C'' D' (upd mk P.length (nI c.1)) (upd mv P.length c.2) (by rw [List.length_append]; show 60 - (P.length + 1) < f; omega) (by omega) (gy_mem_snoc (Q := fun e => gt_in p d e.1) hP hcin) (gt_pk_s hq) hs1 ?_
          · rw [List.length_append] at q; exact q
          · have cut := gt_cut_uniq (P := A'.flatten ++ B') (S := C'' ++ D'.flatten) (P' := (A.flatten ++ B) ++ [c]) (S' := C' ++ D.flatten) (k := c.1 + 1) ?_ hs1.2.1 hs1.2.2.1 ?_ ?_
            · rw [cut.1, hAB, List.append_assoc]
            · rw [← (gt_sk_lim hs1).1, hfl, List.append_assoc (A.flatten ++ B)]; rfl
            · refine gy_mem_snoc (Q := fun e => e.1 < c.1 + 1) (fun e he => ?_) (by omega)
              have := hs12.2.2 e he c (List.mem_append_left _ List.mem_cons_self)
              omega
            · intro e he
              have := hp3.1 e he
              omega
theorem gx_merge {post : Int32 → SX → Prop} {p : Nat → Nat} {n s : Nat} {LL : List (List gt_E)} (hX : gt_X LL lv tt sz ks vs) (hok : ∀ e, e ∈ LL.flatten → gt_ok e.1) (hp : gt_pp p (n + 1)) (hpt : gx_pt p (n + 1) sb) (hs : 1 ≤ s ∧ s ≤ 101)
    (H2 : ∀ (lf sl : Int32) (mk mv : Nat → Int32), 60 < LL.flatten.length + gt_fr (gt_tg p n s) (LL.flatten.filter (gt_ib p (n + 1))) LL.flatten → post (-2) (nI (n + 1), lv, tt, lf, sl, sb, sz, ks, vs, mk, mv, qk, qv))
    (H1 : ∀ (LL' : List (List gt_E)) (lv tt lf sl : Int32) (sz ks vs mk mv qk qv : Nat → Int32), LL.flatten.length + gt_fr (gt_tg p n s) (LL.flatten.filter (gt_ib p (n + 1))) LL.flatten ≤ 60 → gt_X LL' lv tt sz ks vs → List.Perm LL'.flatten (gt_puts (gt_tg p n s) (LL.flatten.filter (gt_ib p (n + 1))) LL.flatten) → post (nI (LL.flatten.filter (gt_ib p (n + 1))).length) (nI (n + 1), lv, tt, lf, sl, sb, sz, ks, vs, mk, mv, qk, qv)) : wpX_merge post (nI (n + 1), lv, tt, lf, sl, sb, sz, ks, vs, mk, mv, qk, qv) (gt_sI s) := by
  have hd3 := hp.1
  have hk := gt_key_lt hp
  have hX' := hX
  obtain ⟨hsh, hrp, hlv, htt, h6⟩ := hX'
  have hnd : gt_nd LL.flatten := gt_srt_nd hsh.2.2.2.1
  refine br_f (nI_ne0 (by omega) (by omega)) (gx_bad (fun _ _ _ _ => br_t rfl ?_) (fun z => absurd z (gt_sI_good hs)))
  refine gx_keyOf hd3 hpt (gx_endOf hd3 hpt ?_)
  rw [nI_pred, nI_clamp (show n < 2 ^ 31 by omega), hpt n (by omega)]
  refine ⟨vp_in_nI (by omega) (by omega), gx_unit (by omega) ?_⟩
  rw [gt_sI_add]
  refine nm_e ?_
  refine gx_seek hsh hrp hlv (by omega) (fun A B C D hsk => ⟨62, ?_⟩)
  have hms : (LL.flatten.filter (gt_ib p (n + 1))).length ≤ LL.flatten.length := List.length_filter_le _ _
  have hby : ∀ e, e ∈ LL.flatten.filter (gt_ib p (n + 1)) → nI e.1 + (nI s - nI (p n)) * nI (gt_un n) = nI (gt_tg p n s e.1) ∧ gt_tg p n s e.1 < 2097152 := by
    intro e he
    have h1 := List.mem_filter.mp he
    have h2 := gt_inb_of h1.2
    have h3 := hok e h1.1
    exact ⟨gt_tg_nI (gt_tg_dig hp hs h3 h2).1, gt_ok_lt (gt_tg_ok hp hs h3 h2).1⟩
  refine gx_merge73 (Q := A.flatten ++ B) hX hp hsk.2.1 (fun lf sl mk mv hq => ?_) 62 [] (gt_key p (n + 1)) A B C D mk mv (by show 60 - 0 < 62; omega) (Nat.le_refl _) (fun e he => by simp at he) gt_pk_nil hsk (by rw [List.append_nil])
  refine ⟨(LL.flatten.filter (gt_ib p (n + 1))).length + 1, gx_merge163 hX hq (by omega) hby (fun lf sl h => ?_) (fun lf sl h => H2 lf sl mk mv h) (LL.flatten.filter (gt_ib p (n + 1))) [] _ lf sl rfl (by omega)⟩
  refine ⟨(LL.flatten.filter (gt_ib p (n + 1))).length + 1, gx_merge218 (L0 := LL.flatten) hq (by omega) hby (gt_dis hnd hok hp hs) hnd h (fun LL' lv tt lf sl sz ks vs qk qv a b => H1 LL' lv tt lf sl sz ks vs mk mv qk qv h a b) (LL.flatten.filter (gt_ib p (n + 1))) [] _ LL lv tt lf sl sz ks vs qk qv rfl (by omega) hX (List.Perm.refl _)⟩
end
end
section
/-! the component's methods over the abstract list -/
section
variable {dp lv tt lf sl : Int32} {sb sz ks vs mk mv qk qv : Nat → Int32}
theorem gt_sk_mem {LL A D : List (List gt_E)} {B C : List gt_E} {c : gt_E} {k : Nat} (hs : gt_sk LL k A B (c :: C) D) : c ∈ LL.flatten := by
  rw [(gt_sk_lim hs).1]; exact List.mem_append_right _ (List.mem_append_left _ List.mem_cons_self)
/-- the first key that is not below k -/
theorem gt_sk_min {LL A D : List (List gt_E)} {B C : List gt_E} {c : gt_E} {k : Nat} (hsrt : gt_srt LL.flatten) (hs : gt_sk LL k A B (c :: C) D) : k ≤ c.1 ∧ ∀ e, e ∈ LL.flatten → k ≤ e.1 → c.1 ≤ e.1 := by
  have hfl := (gt_sk_lim hs).1
  refine ⟨hs.2.2.1 c (List.mem_append_left _ List.mem_cons_self), fun e he hk => ?_⟩
  rw [hfl] at he hsrt
  rcases List.mem_append.mp he with q | q
  · have := hs.2.1 e q; omega
  · have hp2 := (gt_srt_app.mp hsrt).2.1
    rw [List.cons_append] at hp2 q
    rcases List.mem_cons.mp q with y | y
    · rw [y]; exact Nat.le_refl _
    · exact Nat.le_of_lt ((List.pairwise_cons.mp hp2).1 e y)
theorem gt_sk_none {LL A : List (List gt_E)} {B : List gt_E} {k : Nat} (hs : gt_sk LL k A B [] []) : ∀ e, e ∈ LL.flatten → e.1 < k := by
  intro e he
  rw [(gt_sk_lim hs).1] at he
  rcases List.mem_append.mp he with q | q
  · exact hs.2.1 e q
  · simp at q
/-- a search and what it finds, under any continuation -/
theorem gx_sf {K : Int32 → Prop} {LL A D : List (List gt_E)} {B C : List gt_E} {k : Nat} (hX : gt_X LL lv tt sz ks vs) (hs : gt_sk LL k A B C D)
    (H0 : (∀ e, e ∈ LL.flatten → e.1 < k) → K 2097152) (H1 : ∀ c, c ∈ LL.flatten → c.1 < 2097152 → k ≤ c.1 → (∀ e, e ∈ LL.flatten → k ≤ e.1 → c.1 ≤ e.1) → vp_in ((nI A.length * 8) + nI B.length) 256 → vs ((nI A.length * 8) + nI B.length).toNatClampNeg = c.2 → K (nI c.1)) : wpX_found K (dp, lv, tt, nI A.length, nI B.length, sb, sz, ks, vs, mk, mv, qk, qv) := by
  obtain ⟨hsh, hrp, hlv, htt, h6⟩ := hX
  have hl := (gt_sk_lim hs).2
  have h32 := hsh.2.1
  refine gx_found (D := D) (C := C) (hs.1 ▸ hrp) (by omega) (fun z => ?_) (fun c C' z => ?_)
  · subst z
    have hD := hs.2.2.2 rfl
    subst hD
    exact H0 (gt_sk_none hs)
  · subst z
    have hm := gt_lf_mid (gt_rp_mid (hs.1 ▸ hrp))
    have mn := gt_sk_min hsh.2.2.2.1 hs
    exact H1 c (gt_sk_mem hs) (hsh.2.2.2.2 c (gt_sk_mem hs)) mn.1 mn.2 (gx_adin (by omega) hm.1) (by rw [gx_adc (s := B.length) (by omega) hm.1]; exact hm.2.2)
theorem gx_keyBehind {post : Int32 → SX → Prop} {p : Nat → Nat} {d : Nat} {LL : List (List gt_E)} (hX : gt_X LL lv tt sz ks vs) (hok : ∀ e, e ∈ LL.flatten → gt_ok e.1) (hp : gt_pp p d) (hpt : gx_pt p d sb)
    (H0 : ∀ lf sl : Int32, (∀ e, e ∈ LL.flatten → e.1 ≤ gt_key p d) → post 2097152 (nI d, lv, tt, lf, sl, sb, sz, ks, vs, mk, mv, qk, qv))
    (H1 : ∀ (lf sl : Int32) (c : gt_E), c ∈ LL.flatten → c.1 < 2097152 → gt_key p d < c.1 → (∀ e, e ∈ LL.flatten → gt_key p d < e.1 → c.1 ≤ e.1) → vp_in ((lf * 8) + sl) 256 → vs ((lf * 8) + sl).toNatClampNeg = c.2 → post (nI c.1) (nI d, lv, tt, lf, sl, sb, sz, ks, vs, mk, mv, qk, qv)) : wpX_keyBehind post (nI d, lv, tt, lf, sl, sb, sz, ks, vs, mk, mv, qk, qv) := by
  have hk := gt_key_lt hp
  have hd3 := hp.1
  unfold wpX_keyBehind
  refine gx_keyOf hd3 hpt ?_
  refine pk_eq d 0 (fun z => ?_) (fun z => ?_)
  · subst z
    unfold wX_keyBehind_24
    refine gx_seek (k := 0) hX.1 hX.2.1 hX.2.2.1 (by omega) (fun A B C D hs => ?_)
    refine gx_sf (dp := nI 0) hX hs (fun h => H0 _ _ (fun e he => by have := h e he; omega)) (fun c hc hlt _ hmin hv he => H1 _ _ c hc hlt ?_ (fun e he _ => hmin e he (by omega)) hv he)
    have := hok c hc
    unfold gt_ok at this
    rw [gt_k0]; omega
  · rw [nI_1]
    unfold wX_keyBehind_24
    refine gx_seek (k := gt_key p d + 1) hX.1 hX.2.1 hX.2.2.1 (by omega) (fun A B C D hs => ?_)
    exact gx_sf (dp := nI d) hX hs (fun h => H0 _ _ (fun e he => by have := h e he; omega)) (fun c hc hlt h1 hmin hv he => H1 _ _ c hc hlt (by omega) (fun e he h => hmin e he (by omega)) hv he)
theorem gt_zero_abs {p : Nat → Nat} {L : List gt_E} (hok : ∀ e, e ∈ L → gt_ok e.1) : ∀ e, e ∈ L → e.1 ≠ gt_key p 0 := by
  intro e he
  have := hok e he
  unfold gt_ok at this
  rw [gt_k0]; omega
theorem gx_data23 {post : Int32 → SX → Prop} {p : Nat → Nat} {d : Nat} {LL : List (List gt_E)} {x : Int32} (hX : gt_X LL lv tt sz ks vs) (hok : ∀ e, e ∈ LL.flatten → gt_ok e.1) (hp : gt_pp p d) (hpt : gx_pt p d sb)
    (H0 : ∀ lf sl : Int32, (∀ e, e ∈ LL.flatten → e.1 ≠ gt_key p d) → post x (nI d, lv, tt, lf, sl, sb, sz, ks, vs, mk, mv, qk, qv)) (H1 : ∀ (lf sl : Int32) (v : Int32), (gt_key p d, v) ∈ LL.flatten → post (x + 1) (nI d, lv, tt, lf, sl, sb, sz, ks, vs, mk, mv, qk, qv)) : wX_data_23 post x (nI d) lv tt lf sl sb sz ks vs mk mv qk qv := by
  have hd3 := hp.1
  unfold wX_data_23
  refine pk_eq d 0 (fun z => ?_) (fun z => ?_)
  · subst z
    exact H0 lf sl (gt_zero_abs hok)
  · refine gx_keyOf hd3 hpt (gx_present hX.1 hX.2.1 hX.2.2.1 (gt_key_lt hp) (fun A B C D hs hne => br_t rfl (H0 _ _ hne)) (fun A B v C D hs => br_f (by decide) (H1 _ _ v (gt_sk_mem hs))))
theorem gx_data {post : Int32 → SX → Prop} {p : Nat → Nat} {d : Nat} {LL : List (List gt_E)} (hX : gt_X LL lv tt sz ks vs) (hok : ∀ e, e ∈ LL.flatten → gt_ok e.1) (hp : gt_pp p d) (hpt : gx_pt p d sb)
    (H0 : ∀ (lf sl x : Int32), gt_blw p d LL.flatten x → (∀ e, e ∈ LL.flatten → e.1 ≠ gt_key p d) → post x (nI d, lv, tt, lf, sl, sb, sz, ks, vs, mk, mv, qk, qv)) (H1 : ∀ (lf sl x v : Int32), gt_blw p d LL.flatten x → (gt_key p d, v) ∈ LL.flatten → post (x + 1) (nI d, lv, tt, lf, sl, sb, sz, ks, vs, mk, mv, qk, qv)) : wpX_data post (nI d, lv, tt, lf, sl, sb, sz, ks, vs, mk, mv, qk, qv) := by
  have hd3 := hp.1
  have he := gt_end_le hp
  unfold wpX_data
  refine gx_keyBehind hX hok hp hpt (fun lf sl h => ?_) (fun lf sl c hc hlt hk hmin _ _ => ?_)
  · refine gx_endOf hd3 hpt (br_t (nI_le (b := 2097152) he (by omega)) ?_)
    have hb : gt_blw p d LL.flatten 0 := Or.inl ⟨rfl, fun e he q => by have := h e he; omega⟩
    exact gx_data23 hX hok hp hpt (fun lf sl => H0 lf sl 0 hb) (fun lf sl v => H1 lf sl 0 v hb)
  · refine gx_endOf hd3 hpt (pk_le (gt_end p d) c.1 (fun z => ?_) (fun z => ?_))
    · have hb : gt_blw p d LL.flatten 0 := Or.inl ⟨rfl, fun e he q => by have := hmin e he (by omega); omega⟩
      exact gx_data23 hX hok hp hpt (fun lf sl => H0 lf sl 0 hb) (fun lf sl v => H1 lf sl 0 v hb)
    · have hb : gt_blw p d LL.flatten 10 := Or.inr ⟨rfl, c, hc, by omega, z⟩
      exact gx_data23 hX hok hp hpt (fun lf sl => H0 lf sl 10 hb) (fun lf sl v => H1 lf sl 10 v hb)
theorem gx_value {post : Int32 → SX → Prop} {p : Nat → Nat} {d : Nat} {LL : List (List gt_E)} (hX : gt_X LL lv tt sz ks vs) (hok : ∀ e, e ∈ LL.flatten → gt_ok e.1) (hp : gt_pp p d) (hpt : gx_pt p d sb)
    (H0 : ∀ lf sl : Int32, (∀ e, e ∈ LL.flatten → e.1 ≠ gt_key p d) → post 0 (nI d, lv, tt, lf, sl, sb, sz, ks, vs, mk, mv, qk, qv)) (H1 : ∀ (lf sl v : Int32), (gt_key p d, v) ∈ LL.flatten → post v (nI d, lv, tt, lf, sl, sb, sz, ks, vs, mk, mv, qk, qv)) : wpX_value post (nI d, lv, tt, lf, sl, sb, sz, ks, vs, mk, mv, qk, qv) := by
  have hd3 := hp.1
  have h32 := hX.1.2.1
  refine pk_eq d 0 (fun z => ?_) (fun z => ?_)
  · subst z
    exact H0 lf sl (gt_zero_abs hok)
  · refine gx_keyOf hd3 hpt (gx_present hX.1 hX.2.1 hX.2.2.1 (gt_key_lt hp) (fun A B C D hs hne => br_t rfl (H0 _ _ hne)) (fun A B v C D hs => br_f (by decide) ?_))
    have hl := (gt_sk_lim hs).2
    have hm := gt_lf_mid (gt_rp_mid (hs.1 ▸ hX.2.1))
    rw [gx_adc (s := B.length) (by omega) hm.1, hm.2.2]
    exact ⟨gx_adin (by omega) hm.1, H1 _ _ v (gt_sk_mem hs)⟩
theorem gx_next {post : Int32 → SX → Prop} {p : Nat → Nat} {n : Nat} {LL : List (List gt_E)} (hX : gt_X LL lv tt sz ks vs) (hok : ∀ e, e ∈ LL.flatten → gt_ok e.1) (hp : gt_pp p (n + 1)) (hpt : gx_pt p (n + 1) sb)
    (H : ∀ (lf sl r : Int32), gt_near n (fun K => gt_in p n K ∧ n < gt_len K ∧ ¬ gt_dig K n ≤ p n) (fun a b => a ≤ b) LL.flatten r → post r (nI (n + 1), lv, tt, lf, sl, sb, sz, ks, vs, mk, mv, qk, qv)) : wpX_next post (nI (n + 1), lv, tt, lf, sl, sb, sz, ks, vs, mk, mv, qk, qv) := by
  have hd3 := hp.1
  have hp1 : gt_pp p n := gt_pp_le hp (by omega)
  have hpt1 : gx_pt p n sb := fun i hi => hpt i (by omega)
  have he := gt_end_le hp
  have he1 := gt_end_le hp1
  refine br_f (nI_ne0 (by omega) (by omega)) (gx_endOf hd3 hpt (gx_seek hX.1 hX.2.1 hX.2.2.1 (by omega) (fun A B C D hs => ?_)))
  refine gx_sf (dp := nI (n + 1)) hX hs (fun h => ?_) (fun c hc hlt hk hmin _ _ => ?_)
  · rw [nI_pred]
    refine gx_endOf (by omega) hpt1 (br_t (nI_le (b := 2097152) he1 (by omega)) (H _ _ _ (Or.inl ⟨rfl, fun e he q => ?_⟩)))
    have := (gt_fit_next hp (hok e he)).mp q
    have := h e he
    omega
  · rw [nI_pred]
    refine gx_endOf (by omega) hpt1 (pk_le (gt_end p n) c.1 (fun z => H _ _ _ (Or.inl ⟨rfl, fun e he q => ?_⟩)) (fun z => gx_subAt (by omega) hlt (H _ _ _ (Or.inr ⟨c, hc, (gt_fit_next hp (hok c hc)).mpr ⟨hk, z⟩, rfl, fun x hx q => ?_⟩))))
    · have h1 := (gt_fit_next hp (hok e he)).mp q
      have := hmin e he h1.1
      omega
    · have h1 := (gt_fit_next hp (hok x hx)).mp q
      have h2 := (gt_fit_next hp (hok c hc)).mpr ⟨hk, z⟩
      exact gt_mono (by omega) h2.1 q.1 (hmin x hx h1.1)
theorem gx_previous {post : Int32 → SX → Prop} {p : Nat → Nat} {n : Nat} {LL : List (List gt_E)} (hX : gt_X LL lv tt sz ks vs) (hok : ∀ e, e ∈ LL.flatten → gt_ok e.1) (hp : gt_pp p (n + 1)) (hpt : gx_pt p (n + 1) sb)
    (H : ∀ (lf sl r : Int32), gt_near n (fun K => gt_in p n K ∧ n < gt_len K ∧ ¬ p n ≤ gt_dig K n) (fun a b => b ≤ a) LL.flatten r → post r (nI (n + 1), lv, tt, lf, sl, sb, sz, ks, vs, mk, mv, qk, qv)) : wpX_previous post (nI (n + 1), lv, tt, lf, sl, sb, sz, ks, vs, mk, mv, qk, qv) := by
  have hd3 := hp.1
  have hp1 : gt_pp p n := gt_pp_le hp (by omega)
  have hpt1 : gx_pt p n sb := fun i hi => hpt i (by omega)
  have hk := gt_key_lt hp
  have hk1 := gt_key_lt hp1
  have hu : gt_un n ≤ 16384 := by unfold gt_un; split <;> (try split) <;> omega
  refine br_f (nI_ne0 (by omega) (by omega)) (gx_keyOf hd3 hpt (gx_keyBefore hX.1 hX.2.1 hX.2.2.1 hk (fun lf sl h => ?_) (fun lf sl P c S hfl hlt hS => ?_)))
  · dsimp only
    rw [nI_pred]
    refine gx_keyOf (by omega) hpt1 (gx_unit (by omega) ?_)
    rw [nI_add]
    refine nm_e (br_f ?_ (H _ _ _ (Or.inl ⟨rfl, fun e he q => ?_⟩)))
    · rw [Int32.le_iff_toInt_le, nI_toInt (by omega), show (-1 : Int32).toInt = -1 from by decide]; omega
    · have := (gt_fit_prev hp (hok e he)).mp q
      have := h e he
      omega
  · have hc : c ∈ LL.flatten := by rw [hfl]; exact List.mem_append_right _ List.mem_cons_self
    have hcl := hX.1.2.2.2.2 c hc
    have hmax : ∀ e, e ∈ LL.flatten → e.1 < gt_key p (n + 1) → e.1 ≤ c.1 := by
      intro e he hlt2
      have hsrt := hX.1.2.2.2.1
      rw [hfl] at he hsrt
      rcases List.mem_append.mp he with q | q
      · exact Nat.le_of_lt ((gt_srt_app.mp hsrt).2.2 e q c List.mem_cons_self)
      · rcases List.mem_cons.mp q with q | q
        · rw [q]; exact Nat.le_refl _
        · have := hS e q; omega
    dsimp only
    rw [nI_pred]
    refine gx_keyOf (by omega) hpt1 (gx_unit (by omega) ?_)
    rw [nI_add]
    refine nm_e (pk_le (gt_key p n + gt_un n) c.1 (fun z => gx_subAt (by omega) hcl (H _ _ _ (Or.inr ⟨c, hc, (gt_fit_prev hp (hok c hc)).mpr ⟨z, hlt⟩, rfl, fun x hx q => ?_⟩))) (fun z => H _ _ _ (Or.inl ⟨rfl, fun e he q => ?_⟩)))
    · have h1 := (gt_fit_prev hp (hok x hx)).mp q
      have h2 := (gt_fit_prev hp (hok c hc)).mpr ⟨z, hlt⟩
      exact gt_mono (by omega) q.1 h2.1 (hmax x hx h1.2)
    · have h1 := (gt_fit_prev hp (hok e he)).mp q
      have := hmax e he h1.2
      omega
theorem gx_first {post : Int32 → SX → Prop} {p : Nat → Nat} {n : Nat} {LL : List (List gt_E)} (hX : gt_X LL lv tt sz ks vs) (hok : ∀ e, e ∈ LL.flatten → gt_ok e.1) (hp : gt_pp p n) (hpt : gx_pt p n sb) (hn : n < 3)
    (H : ∀ (lf sl r : Int32), gt_near n (fun K => gt_in p n K ∧ n < gt_len K ∧ ¬ gt_dig K n ≤ 0) (fun a b => a ≤ b) LL.flatten r → post r (nI n, lv, tt, lf, sl, sb, sz, ks, vs, mk, mv, qk, qv)) : wpX_first post (nI n, lv, tt, lf, sl, sb, sz, ks, vs, mk, mv, qk, qv) := by
  have he := gt_end_le hp
  refine br_t (nI_lt (b := 3) hn (by omega)) (gx_keyBehind hX hok hp hpt (fun lf sl h => ?_) (fun lf sl c hc hlt hk hmin _ _ => ?_))
  · refine gx_endOf (by omega) hpt (br_t (nI_le (b := 2097152) he (by omega)) (H _ _ _ (Or.inl ⟨rfl, fun e he q => ?_⟩)))
    have := (gt_fit_first hp hn (hok e he)).mp q
    have := h e he
    omega
  · refine gx_endOf (by omega) hpt (pk_le (gt_end p n) c.1 (fun z => H _ _ _ (Or.inl ⟨rfl, fun e he q => ?_⟩)) (fun z => gx_subAt (by omega) hlt (H _ _ _ (Or.inr ⟨c, hc, (gt_fit_first hp hn (hok c hc)).mpr ⟨hk, z⟩, rfl, fun x hx q => ?_⟩))))
    · have h1 := (gt_fit_first hp hn (hok e he)).mp q
      have := hmin e he (by omega)
      omega
    · have h1 := (gt_fit_first hp hn (hok x hx)).mp q
      have h2 := (gt_fit_first hp hn (hok c hc)).mpr ⟨hk, z⟩
      exact gt_mono (by omega) h2.1 q.1 (hmin x hx (by omega))
theorem gx_query {post : Int32 → SX → Prop} {p : Nat → Nat} {d : Nat} {LL : List (List gt_E)} (hX : gt_X LL lv tt sz ks vs) (hok : ∀ e, e ∈ LL.flatten → gt_ok e.1) (hp : gt_pp p d) (hpt : gx_pt p d sb)
    (H0 : ∀ lf sl : Int32, (∀ e, e ∈ LL.flatten → e.1 ≤ gt_key p d) → post 0 (nI d, lv, tt, lf, sl, sb, sz, ks, vs, mk, mv, qk, qv))
    (H1 : ∀ (lf sl : Int32) (c : gt_E), c ∈ LL.flatten → gt_key p d < c.1 → (∀ e, e ∈ LL.flatten → gt_key p d < e.1 → c.1 ≤ e.1) → post c.2 (nI d, lv, tt, lf, sl, sb, sz, ks, vs, mk, mv, qk, qv)) : wpX_query post (nI d, lv, tt, lf, sl, sb, sz, ks, vs, mk, mv, qk, qv) := by
  unfold wpX_query
  refine gx_keyBehind hX hok hp hpt (fun lf sl h => br_t rfl (H0 lf sl h)) (fun lf sl c hc hlt hk hmin hv he => ?_)
  refine br_f ?_ ⟨hv, ?_⟩
  · intro z
    have := (nI_eq (a := c.1) (b := 2097152) (by omega) (by omega)).mp z
    omega
  · rw [he]; exact H1 lf sl c hc hk hmin
theorem gx_before21 {post : Int32 → SX → Prop} {A : List (List gt_E)} {m : Nat} (hr : gt_rp sz ks vs 0 A) (hA : A.length < 32) (hm : m ≤ 8) (h60 : A.flatten.length ≤ 60) (H : post (nI (m + A.flatten.length)) (dp, lv, tt, nI A.length, sl, sb, sz, ks, vs, mk, mv, qk, qv)) :
    ∀ (D C : List (List gt_E)) (f : Nat), A = C ++ D → D.length < f → wX_before_21 post dp lv tt (nI A.length) sl sb sz ks vs mk mv qk qv f (nI (m + C.flatten.length)) (nI C.length) := by
  intro D
  induction D with
  | nil =>
    intro C f e hf
    obtain ⟨f, rfl⟩ : ∃ g, f = g + 1 := ⟨f - 1, by omega⟩
    rw [List.append_nil] at e
    subst e
    rw [wX_before_21]
    dsimp only
    exact br_t (nI_le (Nat.le_refl _) (by omega)) H
  | cons L0 D ih =>
    intro C f e hf
    rw [List.length_cons] at hf
    obtain ⟨f, rfl⟩ : ∃ g, f = g + 1 := ⟨f - 1, by omega⟩
    have hl : A.length = C.length + D.length + 1 := by rw [e, List.length_append, List.length_cons]; omega
    have hlf := gt_rp_mid (e ▸ hr)
    rw [wX_before_21]
    dsimp only
    rw [nI_clamp (show C.length < 2 ^ 31 by omega), hlf.2.1, nI_add]
    refine br_f (nI_ge (by omega) (by omega)) ⟨vp_in_nI (by omega) (by omega), nm_e (nm_r (nI_1 _) ?_)⟩
    have q := ih (C ++ [L0]) f (by rw [e, List.append_assoc]; rfl) (by omega)
    rw [List.flatten_append, List.flatten_cons, List.flatten_nil, List.append_nil, List.length_append, List.length_append, ← Nat.add_assoc] at q
    exact q
theorem gx_before {post : Int32 → SX → Prop} {p : Nat → Nat} {d : Nat} {LL : List (List gt_E)} (hX : gt_X LL lv tt sz ks vs) (hp : gt_pp p d) (hpt : gx_pt p d sb)
    (H : ∀ lf sl : Int32, post (nI (LL.flatten.countP (fun e => decide (e.1 < gt_key p d)))) (nI d, lv, tt, lf, sl, sb, sz, ks, vs, mk, mv, qk, qv)) : wpX_before post (nI d, lv, tt, lf, sl, sb, sz, ks, vs, mk, mv, qk, qv) := by
  have hk := gt_key_lt hp
  have h32 := hX.1.2.1
  have h60 := hX.2.2.2.2
  unfold wpX_before
  refine gx_keyOf hp.1 hpt (gx_seek hX.1 hX.2.1 hX.2.2.1 (by omega) (fun A B C D hs => ⟨A.length + 1, ?_⟩))
  have ⟨hfl, hl⟩ := gt_sk_lim hs
  have hr := hs.1 ▸ hX.2.1
  have h8 := (gt_rp_mid hr).1
  rw [List.length_append] at h8
  have e1 : LL.flatten.countP (fun e => decide (e.1 < gt_key p d)) = B.length + A.flatten.length := by
    rw [hfl, List.countP_eq_length_filter, gt_fil_cut (fun e he => decide_eq_true (hs.2.1 e he)) (fun e he => decide_eq_false (Nat.not_lt.mpr (hs.2.2.1 e he))), List.length_append]; omega
  rw [e1] at H
  have hle : A.flatten.length ≤ LL.flatten.length := by rw [hfl]; simp only [List.length_append]; omega
  exact gx_before21 (dp := nI d) (lv := lv) (tt := tt) (sl := nI B.length) (sb := sb) (mk := mk) (mv := mv) (qk := qk) (qv := qv) (gt_rp_app.mp hr).1 (by omega) (by omega) (by omega) (H _ _) A [] (A.length + 1) rfl (by omega)
theorem gx_set41 {post : Int32 → SX → Prop} {k : Nat} {v r : Int32} {LL : List (List gt_E)} (hX : gt_X LL lv tt sz ks vs) (hk : k < 2097152) (h60 : (∀ e, e ∈ LL.flatten → e.1 ≠ k) → LL.flatten.length < 60)
    (H : ∀ (LL' : List (List gt_E)) (lv tt lf sl : Int32) (sz ks vs qk qv : Nat → Int32), gt_X LL' lv tt sz ks vs → List.Perm LL'.flatten (gt_put k v LL.flatten) → post (if r = 0 then 0 else 1) (dp, lv, tt, lf, sl, sb, sz, ks, vs, mk, mv, qk, qv)) : wX_set_41 post v (nI k) r dp lv tt lf sl sb sz ks vs mk mv qk qv := by
  unfold wX_set_41
  refine gx_put hX hk h60 (fun LL' lv tt lf sl sz ks vs qk qv h1 h2 => ?_)
  have q := H LL' lv tt lf sl sz ks vs qk qv h1 h2
  by_cases z : r = 0
  · rw [if_pos z] at q; exact br_t z q
  · rw [if_neg z] at q; exact br_f z q
theorem gx_set {post : Int32 → SX → Prop} {p : Nat → Nat} {d : Nat} {v : Int32} {LL : List (List gt_E)} (hX : gt_X LL lv tt sz ks vs) (hp : gt_pp p d) (hpt : gx_pt p d sb) (h0 : 0 < d)
    (H2 : ∀ lf sl : Int32, (∀ e, e ∈ LL.flatten → e.1 ≠ gt_key p d) → LL.flatten.length = 60 → post (-2) (nI d, lv, tt, lf, sl, sb, sz, ks, vs, mk, mv, qk, qv))
    (H0 : ∀ (LL' : List (List gt_E)) (lv tt lf sl : Int32) (sz ks vs qk qv : Nat → Int32), (∀ e, e ∈ LL.flatten → e.1 ≠ gt_key p d) → LL.flatten.length < 60 → gt_X LL' lv tt sz ks vs → List.Perm LL'.flatten (gt_put (gt_key p d) v LL.flatten) → post 0 (nI d, lv, tt, lf, sl, sb, sz, ks, vs, mk, mv, qk, qv))
    (H1 : ∀ (w : Int32) (LL' : List (List gt_E)) (lv tt lf sl : Int32) (sz ks vs qk qv : Nat → Int32), (gt_key p d, w) ∈ LL.flatten → gt_X LL' lv tt sz ks vs → List.Perm LL'.flatten (gt_put (gt_key p d) v LL.flatten) → post 1 (nI d, lv, tt, lf, sl, sb, sz, ks, vs, mk, mv, qk, qv)) : wpX_set post (nI d, lv, tt, lf, sl, sb, sz, ks, vs, mk, mv, qk, qv) v := by
  have hd3 := hp.1
  have hk := gt_key_lt hp
  refine br_f (nI_ne0 h0 (by omega)) (gx_keyOf hd3 hpt (gx_present hX.1 hX.2.1 hX.2.2.1 hk (fun A B C D hs hne => ?_) (fun A B w C D hs => ?_)))
  · refine br_t rfl (pk_lt LL.flatten.length 60 (fun z => ?_) (fun z => H2 _ _ hne (by have := hX.2.2.2.2; omega)) hX.2.2.2.1 rfl (by have := hX.2.2.2.2; omega))
    exact gx_set41 hX hk (fun _ => z) (fun LL' lv tt lf sl sz ks vs qk qv h1 h2 => H0 LL' lv tt lf sl sz ks vs qk qv hne z h1 h2)
  · refine br_f (by decide) (gx_set41 hX hk (fun h => absurd rfl (h _ (gt_sk_mem hs))) (fun LL' lv tt lf sl sz ks vs qk qv h1 h2 => H1 w LL' lv tt lf sl sz ks vs qk qv (gt_sk_mem hs) h1 h2))
theorem gx_inc68 {post : Int32 → SX → Prop} {k : Nat} {v : Int32} {LL : List (List gt_E)} (hX : gt_X LL lv tt sz ks vs) (hk : k < 2097152) (h60 : (∀ e, e ∈ LL.flatten → e.1 ≠ k) → LL.flatten.length < 60)
    (H : ∀ (LL' : List (List gt_E)) (lv tt lf sl : Int32) (sz ks vs qk qv : Nat → Int32), gt_X LL' lv tt sz ks vs → List.Perm LL'.flatten (gt_put k v LL.flatten) → post v (dp, lv, tt, lf, sl, sb, sz, ks, vs, mk, mv, qk, qv)) : wX_increment_68 post (nI k) v dp lv tt lf sl sb sz ks vs mk mv qk qv := by
  unfold wX_increment_68
  exact gx_put hX hk h60 (fun LL' lv tt lf sl sz ks vs qk qv h1 h2 => H LL' lv tt lf sl sz ks vs qk qv h1 h2)
theorem gx_increment {post : Int32 → SX → Prop} {p : Nat → Nat} {d : Nat} {v : Int32} {LL : List (List gt_E)} (hX : gt_X LL lv tt sz ks vs) (hp : gt_pp p d) (hpt : gx_pt p d sb) (h0 : 0 < d)
    (H2 : ∀ lf sl : Int32, (∀ e, e ∈ LL.flatten → e.1 ≠ gt_key p d) → LL.flatten.length = 60 → post (-2) (nI d, lv, tt, lf, sl, sb, sz, ks, vs, mk, mv, qk, qv))
    (H0 : ∀ (LL' : List (List gt_E)) (lv tt lf sl : Int32) (sz ks vs qk qv : Nat → Int32), (∀ e, e ∈ LL.flatten → e.1 ≠ gt_key p d) → LL.flatten.length < 60 → gt_X LL' lv tt sz ks vs → List.Perm LL'.flatten (gt_put (gt_key p d) v LL.flatten) → post v (nI d, lv, tt, lf, sl, sb, sz, ks, vs, mk, mv, qk, qv))
    (H1 : ∀ (w : Int32) (LL' : List (List gt_E)) (lv tt lf sl : Int32) (sz ks vs qk qv : Nat → Int32), (gt_key p d, w) ∈ LL.flatten → gt_X LL' lv tt sz ks vs → List.Perm LL'.flatten (gt_put (gt_key p d) (w + v) LL.flatten) → post (w + v) (nI d, lv, tt, lf, sl, sb, sz, ks, vs, mk, mv, qk, qv)) : wpX_increment post (nI d, lv, tt, lf, sl, sb, sz, ks, vs, mk, mv, qk, qv) v := by
  have hd3 := hp.1
  have hk := gt_key_lt hp
  have h32 := hX.1.2.1
  refine br_f (nI_ne0 h0 (by omega)) (gx_keyOf hd3 hpt (gx_present hX.1 hX.2.1 hX.2.2.1 hk (fun A B C D hs hne => ?_) (fun A B w C D hs => ?_)))
  · refine br_t rfl (pk_lt LL.flatten.length 60 (fun z => ?_) (fun z => H2 _ _ hne (by have := hX.2.2.2.2; omega)) hX.2.2.2.1 rfl (by have := hX.2.2.2.2; omega))
    exact br_t rfl (gx_inc68 hX hk (fun _ => z) (fun LL' lv tt lf sl sz ks vs qk qv h1 h2 => H0 LL' lv tt lf sl sz ks vs qk qv hne z h1 h2))
  · refine br_f (by decide) (br_f (by decide) ?_)
    have hl := (gt_sk_lim hs).2
    have hm := gt_lf_mid (gt_rp_mid (hs.1 ▸ hX.2.1))
    rw [gx_adc (s := B.length) (by omega) hm.1, hm.2.2]
    exact ⟨gx_adin (by omega) hm.1, gx_inc68 hX hk (fun h => absurd rfl (h _ (gt_sk_mem hs))) (fun LL' lv tt lf sl sz ks vs qk qv h1 h2 => H1 w LL' lv tt lf sl sz ks vs qk qv (gt_sk_mem hs) h1 h2)⟩
end
end
section
/-! the relation, and what is owed -/
def gz_R (dp lv tt : Int32) (sb sz ks vs : Nat → Int32) (nn dd : Int32) (li le va po : Nat → Int32) : Prop :=
  ∃ (d : Nat) (p : Nat → Nat) (LL : List (List gt_E)) (M : List gt_E), dp = nI d ∧ dd = nI d ∧ gt_pp p d ∧ gx_pt p d sb ∧ gy_pt p d po ∧ gt_X LL lv tt sz ks vs ∧ gy_Y M nn li le va ∧ List.Perm LL.flatten M
/-- the same pointer, and the component's leaves hold the reference's nodes, in order -/
def i_Rel (_ : Nat) (u : SX) (v : SY) : Prop := match u, v with
  | (dp, lv, tt, _, _, sb, sz, ks, vs, _, _, _, _), (nn, dd, li, le, va, po) => gz_R dp lv tt sb sz ks vs nn dd li le va po
theorem i_up {k : Nat} {u : SX} {v : SY} (h : i_Rel k u v) : i_Rel (k + 2) u v := h
theorem i_vc0 : wpX_init (fun u => wpY_init (fun v => i_Rel 0 u v)) := by
  refine ⟨0, fun _ => 0, [[]], [], rfl, rfl, ⟨by omega, fun i hi => by omega⟩, fun i hi => by omega, fun i hi => by omega, ⟨⟨by simp, by decide, fun h => absurd h (by decide), List.Pairwise.nil, fun e he => by simp at he⟩, ?_, rfl, rfl, by decide⟩, ⟨gy_rp_nil, rfl, by decide⟩, List.Perm.refl _⟩
  exact gt_rp_cons.mpr ⟨⟨by decide, rfl, fun i e he => by simp at he⟩, gt_rp_nil⟩
theorem gz_down {p : Nat → Nat} {d s : Nat} {sb po : Nat → Int32} (hp : gt_pp p d) (hpt : gx_pt p d sb) (hpo : gy_pt p d po) (hd : d < 3) (hs : 1 ≤ s ∧ s ≤ 101) : gt_pp (fun i => if i = d then s else p i) (d + 1) ∧ gx_pt (fun i => if i = d then s else p i) (d + 1) (upd sb d (nI s)) ∧ gy_pt (fun i => if i = d then s else p i) (d + 1) (upd po d (gt_sI s)) := by
  refine ⟨⟨by omega, fun i hi => ?_⟩, fun i hi => ?_, fun i hi => ?_⟩
  · dsimp only
    by_cases z : i = d
    · rw [if_pos z]; exact hs
    · rw [if_neg z]; exact hp.2 i (by omega)
  · dsimp only
    by_cases z : i = d
    · rw [if_pos z, z, pk_us]
    · rw [if_neg z, pk_un z]; exact hpt i (by omega)
  · dsimp only
    by_cases z : i = d
    · rw [if_pos z, z, pk_us]
    · rw [if_neg z, pk_un z]; exact hpo i (by omega)
theorem i_vc_down {k : Nat} {u : SX} {v : SY} (I : i_Rel k u v) (hk : k + 2 ≤ 1024) (v1 : Int32) : wpX_down (fun r u' => wpY_down (fun r' v' => r' = r ∧ i_Rel (k + 2) u' v') v v1) u v1 := by
  obtain ⟨dp, lv, tt, lf, sl, sb, sz, ks, vs, mk, mv, qk, qv⟩ := u
  obtain ⟨nn, dd, li, le, va, po⟩ := v
  obtain ⟨d, p, LL, M, rfl, rfl, hp, hpt, hpo, hX, hY, hpm⟩ := I
  have hd3 := hp.1
  unfold wpX_down wpY_down
  dsimp only
  refine gx_bad (fun s h1 h2 e => ?_) (fun z => ?_)
  · subst e
    refine br_t rfl (pk_lt d 3 (fun z => ?_) (fun z => ?_))
    · rw [nI_clamp (show d < 2 ^ 31 by omega), gt_sI_add]
      refine ⟨vp_in_nI z (by omega), nm_e (nm_r (nI_1 d) ?_)⟩
      refine gy_isSub (fun _ _ _ _ => br_f (by decide) (br_f (fun y => ?_) ?_)) (fun z => absurd z (gt_sI_good ⟨h1, h2⟩))
      · have := (nI_eq (a := d) (b := 3) (by omega) (by omega)).mp y
        omega
      · refine ⟨vp_in_nI z (by omega), nm_e (nm_r (nI_1 d) ⟨rfl, ?_⟩)⟩
        have ⟨a, b, c⟩ := gz_down hp hpt hpo z ⟨h1, h2⟩
        exact ⟨d + 1, _, LL, M, rfl, rfl, a, b, c, hX, hY, hpm⟩
    · have e3 : d = 3 := by omega
      subst e3
      refine gy_isSub (fun _ _ _ _ => br_f (by decide) (br_t rfl ⟨rfl, 3, p, LL, M, rfl, rfl, hp, hpt, hpo, hX, hY, hpm⟩)) (fun z => absurd z (gt_sI_good ⟨h1, h2⟩))
  · refine br_f (by decide) (gy_isSub (fun s h1 h2 e => absurd z (by rw [e]; exact gt_sI_good ⟨h1, h2⟩)) (fun _ => br_t rfl ⟨rfl, d, p, LL, M, rfl, rfl, hp, hpt, hpo, hX, hY, hpm⟩))
theorem i_vc_up {k : Nat} {u : SX} {v : SY} (I : i_Rel k u v) (hk : k + 2 ≤ 1024) : wpX_up (fun r u' => wpY_up (fun r' v' => r' = r ∧ i_Rel (k + 2) u' v') v) u := by
  obtain ⟨dp, lv, tt, lf, sl, sb, sz, ks, vs, mk, mv, qk, qv⟩ := u
  obtain ⟨nn, dd, li, le, va, po⟩ := v
  obtain ⟨d, p, LL, M, rfl, rfl, hp, hpt, hpo, hX, hY, hpm⟩ := I
  have hd3 := hp.1
  rcases d with _ | n
  · exact br_t rfl (br_t rfl ⟨rfl, 0, p, LL, M, rfl, rfl, hp, hpt, hpo, hX, hY, hpm⟩)
  · have hne : ¬ nI (n + 1) = 0 := nI_ne0 (by omega) (by omega)
    refine br_f hne (nm_r (nI_pred n) (br_f hne (nm_r (nI_pred n) ⟨rfl, n, p, LL, M, rfl, rfl, gt_pp_le hp (by omega), fun i hi => hpt i (by omega), fun i hi => hpo i (by omega), hX, hY, hpm⟩)))
theorem i_vc_turn {k : Nat} {u : SX} {v : SY} (I : i_Rel k u v) (hk : k + 2 ≤ 1024) (v1 : Int32) : wpX_turn (fun r u' => wpY_turn (fun r' v' => r' = r ∧ i_Rel (k + 2) u' v') v v1) u v1 := by
  obtain ⟨dp, lv, tt, lf, sl, sb, sz, ks, vs, mk, mv, qk, qv⟩ := u
  obtain ⟨nn, dd, li, le, va, po⟩ := v
  obtain ⟨d, p, LL, M, rfl, rfl, hp, hpt, hpo, hX, hY, hpm⟩ := I
  have hd3 := hp.1
  rcases d with _ | n
  · exact br_t rfl (br_t rfl ⟨rfl, 0, p, LL, M, rfl, rfl, hp, hpt, hpo, hX, hY, hpm⟩)
  · have hne : ¬ nI (n + 1) = 0 := nI_ne0 (by omega) (by omega)
    refine br_f hne (gx_bad (fun s h1 h2 e => ?_) (fun z => ?_))
    · subst e
      refine br_t rfl ?_
      rw [nI_pred, nI_clamp (show n < 2 ^ 31 by omega), gt_sI_add, hpt n (by omega)]
      have v1 : vp_in (nI n) 3 := vp_in_nI (by omega) (by omega)
      refine ⟨v1, nm_e ⟨v1, nm_e (br_f hne (gy_isSub (fun _ _ _ _ => br_f (by decide) ?_) (fun z => absurd z (gt_sI_good ⟨h1, h2⟩))))⟩⟩
      rw [nI_pred, nI_clamp (show n < 2 ^ 31 by omega), hpo n (by omega)]
      refine ⟨v1, nm_e ⟨v1, nm_e ⟨rfl, ?_⟩⟩⟩
      have ⟨a, b, c⟩ := gz_down (gt_pp_le hp (show n ≤ n + 1 by omega)) (fun i hi => hpt i (by omega)) (fun i hi => hpo i (by omega)) (by omega) ⟨h1, h2⟩
      exact ⟨n + 1, _, LL, M, rfl, rfl, a, b, c, hX, hY, hpm⟩
    · refine br_f (by decide) (br_f hne (gy_isSub (fun s h1 h2 e => absurd z (by rw [e]; exact gt_sI_good ⟨h1, h2⟩)) (fun _ => br_t rfl ⟨rfl, n + 1, p, LL, M, rfl, rfl, hp, hpt, hpo, hX, hY, hpm⟩)))
theorem gz_nd {LL : List (List gt_E)} {M : List gt_E} {lv tt : Int32} {sz ks vs : Nat → Int32} (hX : gt_X LL lv tt sz ks vs) (hpm : List.Perm LL.flatten M) : gt_nd M := gt_nd_perm hpm (gt_srt_nd hX.1.2.2.2.1)
theorem gz_ok {LL : List (List gt_E)} {M : List gt_E} {nn : Int32} {li le va : Nat → Int32} (hY : gy_Y M nn li le va) (hpm : List.Perm LL.flatten M) : ∀ e, e ∈ LL.flatten → gt_ok e.1 := fun e he => gy_ok hY.1 e (hpm.mem_iff.mp he)
theorem i_vc_set {k : Nat} {u : SX} {v : SY} (I : i_Rel k u v) (hk : k + 2 ≤ 1024) (v1 : Int32) : wpX_set (fun r u' => wpY_set (fun r' v' => r' = r ∧ i_Rel (k + 2) u' v') v v1) u v1 := by
  obtain ⟨dp, lv, tt, lf, sl, sb, sz, ks, vs, mk, mv, qk, qv⟩ := u
  obtain ⟨nn, dd, li, le, va, po⟩ := v
  obtain ⟨d, p, LL, M, rfl, rfl, hp, hpt, hpo, hX, hY, hpm⟩ := I
  have hnd := gz_nd hX hpm
  rcases Nat.eq_zero_or_pos d with z | z
  · subst z
    exact br_t rfl (br_t rfl ⟨rfl, 0, p, LL, M, rfl, rfl, hp, hpt, hpo, hX, hY, hpm⟩)
  · refine gx_set hX hp hpt z (fun lf sl hne h60 => ?_) (fun LL' lv tt lf sl sz ks vs qk qv hne h60 hX1 hpm1 => ?_) (fun w LL' lv tt lf sl sz ks vs qk qv hw hX1 hpm1 => ?_)
    · refine gy_set hY hnd hp hpo (fun y => by omega) (fun _ _ _ => ⟨rfl, d, p, LL, M, rfl, rfl, hp, hpt, hpo, hX, hY, hpm⟩) (fun w M' va _ hw _ _ => absurd rfl (hne _ (hpm.mem_iff.mpr hw))) (fun M' nn li le va _ _ h _ _ => ?_)
      rw [hpm.length_eq] at h60; omega
    · refine gy_set hY hnd hp hpo (fun y => by omega) (fun _ _ h => ?_) (fun w M' va _ hw _ _ => absurd rfl (hne _ (hpm.mem_iff.mpr hw))) (fun M' nn li le va _ _ _ hY1 hq => ?_)
      · rw [hpm.length_eq] at h60; omega
      · exact ⟨rfl, d, p, LL', M', rfl, rfl, hp, hpt, hpo, hX1, hY1, hpm1.trans ((gt_put_perm _ _ hpm).trans hq.symm)⟩
    · refine gy_set hY hnd hp hpo (fun y => by omega) (fun _ h _ => absurd rfl (h _ (hpm.mem_iff.mp hw))) (fun w M' va _ hw hY1 hq => ?_) (fun M' nn li le va _ h _ _ _ => absurd rfl (h _ (hpm.mem_iff.mp hw)))
      exact ⟨rfl, d, p, LL', M', rfl, rfl, hp, hpt, hpo, hX1, hY1, hpm1.trans ((gt_put_perm _ _ hpm).trans hq.symm)⟩
theorem i_vc_increment {k : Nat} {u : SX} {v : SY} (I : i_Rel k u v) (hk : k + 2 ≤ 1024) (v1 : Int32) : wpX_increment (fun r u' => wpY_increment (fun r' v' => r' = r ∧ i_Rel (k + 2) u' v') v v1) u v1 := by
  obtain ⟨dp, lv, tt, lf, sl, sb, sz, ks, vs, mk, mv, qk, qv⟩ := u
  obtain ⟨nn, dd, li, le, va, po⟩ := v
  obtain ⟨d, p, LL, M, rfl, rfl, hp, hpt, hpo, hX, hY, hpm⟩ := I
  have hnd := gz_nd hX hpm
  have hYr := hY.1
  have hYl := hY.2.2
  have hYn := hY.2.1
  subst hYn
  rcases Nat.eq_zero_or_pos d with z | z
  · subst z
    refine br_t rfl ?_
    unfold wpY_increment
    refine gy_value hYr hYl hp hpo (fun w hw => absurd rfl (gt_zero_abs (p := p) (gy_ok hYr) _ hw)) (fun _ => nm_e ?_)
    exact br_t rfl (br_f (by decide) ⟨rfl, 0, p, LL, M, rfl, rfl, hp, hpt, hpo, hX, hY, hpm⟩)
  · refine gx_increment hX hp hpt z (fun lf sl hne h60 => ?_) (fun LL' lv tt lf sl sz ks vs qk qv hne h60 hX1 hpm1 => ?_) (fun w LL' lv tt lf sl sz ks vs qk qv hw hX1 hpm1 => ?_)
    · unfold wpY_increment
      refine gy_value hYr hYl hp hpo (fun w hw => absurd rfl (hne _ (hpm.mem_iff.mpr hw))) (fun _ => nm_e ?_)
      refine gy_set hY hnd hp hpo (fun y => by omega) (fun _ _ _ => br_f (by decide) ⟨rfl, d, p, LL, M, rfl, rfl, hp, hpt, hpo, hX, hY, hpm⟩) (fun w M' va _ hw _ _ => absurd rfl (hne _ (hpm.mem_iff.mpr hw))) (fun M' nn li le va _ _ h _ _ => ?_)
      rw [hpm.length_eq] at h60; omega
    · unfold wpY_increment
      refine gy_value hYr hYl hp hpo (fun w hw => absurd rfl (hne _ (hpm.mem_iff.mpr hw))) (fun _ => nm_r (Int32.zero_add v1) ?_)
      refine gy_set hY hnd hp hpo (fun y => by omega) (fun _ _ h => ?_) (fun w M' va _ hw _ _ => absurd rfl (hne _ (hpm.mem_iff.mpr hw))) (fun M' nn li le va _ _ _ hY1 hq => br_t (by decide) ?_)
      · rw [hpm.length_eq] at h60; omega
      · exact ⟨rfl, d, p, LL', M', rfl, rfl, hp, hpt, hpo, hX1, hY1, hpm1.trans ((gt_put_perm _ _ hpm).trans hq.symm)⟩
    · unfold wpY_increment
      have hwM := hpm.mem_iff.mp hw
      refine gy_value hYr hYl hp hpo (fun w' hw' => ?_) (fun h => absurd rfl (h _ hwM))
      have ew : w' = w := gt_nd_inj hnd hw' hwM
      subst ew
      refine nm_e ?_
      refine gy_set hY hnd hp hpo (fun y => by omega) (fun _ h _ => absurd rfl (h _ hwM)) (fun w M' va _ hw hY1 hq => br_t (by decide) ?_) (fun M' nn li le va _ h _ _ _ => absurd rfl (h _ hwM))
      exact ⟨rfl, d, p, LL', M', rfl, rfl, hp, hpt, hpo, hX1, hY1, hpm1.trans ((gt_put_perm _ _ hpm).trans hq.symm)⟩
theorem i_vc_kill {k : Nat} {u : SX} {v : SY} (I : i_Rel k u v) (hk : k + 2 ≤ 1024) : wpX_kill (fun r u' => wpY_kill (fun r' v' => r' = r ∧ i_Rel (k + 2) u' v') v) u := by
  obtain ⟨dp, lv, tt, lf, sl, sb, sz, ks, vs, mk, mv, qk, qv⟩ := u
  obtain ⟨nn, dd, li, le, va, po⟩ := v
  obtain ⟨d, p, LL, M, rfl, rfl, hp, hpt, hpo, hX, hY, hpm⟩ := I
  refine gx_kill hX hp hpt (fun LL' lv tt lf sl sz ks vs hX1 hfl => gy_kill hY hp hpo (fun nn li le va hY1 => ⟨?_, ?_⟩))
  · rw [hpm.length_eq, (hpm.filter _).length_eq]
  · exact ⟨d, p, LL', _, rfl, rfl, hp, hpt, hpo, hX1, hY1, by rw [hfl]; exact hpm.filter _⟩
theorem i_vc_merge {k : Nat} {u : SX} {v : SY} (I : i_Rel k u v) (hk : k + 2 ≤ 1024) (v1 : Int32) : wpX_merge (fun r u' => wpY_merge (fun r' v' => r' = r ∧ i_Rel (k + 2) u' v') v v1) u v1 := by
  obtain ⟨dp, lv, tt, lf, sl, sb, sz, ks, vs, mk, mv, qk, qv⟩ := u
  obtain ⟨nn, dd, li, le, va, po⟩ := v
  obtain ⟨d, p, LL, M, rfl, rfl, hp, hpt, hpo, hX, hY, hpm⟩ := I
  have hd3 := hp.1
  have hnd := gz_nd hX hpm
  have hok := gz_ok hY hpm
  rcases d with _ | n
  · exact br_t rfl (br_t rfl ⟨rfl, 0, p, LL, M, rfl, rfl, hp, hpt, hpo, hX, hY, hpm⟩)
  · have hne : ¬ nI (n + 1) = 0 := nI_ne0 (by omega) (by omega)
    by_cases hb : v1 < -50 ∨ ¬ v1 ≤ 50
    · refine br_f hne (gx_bad (fun s h1 h2 e => absurd hb (by rw [e]; exact gt_sI_good ⟨h1, h2⟩)) (fun _ => br_f (by decide) ?_))
      exact br_f hne (gy_isSub (fun s h1 h2 e => absurd hb (by rw [e]; exact gt_sI_good ⟨h1, h2⟩)) (fun _ => br_t rfl ⟨rfl, n + 1, p, LL, M, rfl, rfl, hp, hpt, hpo, hX, hY, hpm⟩))
    · obtain ⟨s, h1, h2, e⟩ := gt_sI_of (x := v1) (fun q => hb (Or.inl q)) (Classical.byContradiction (fun q => hb (Or.inr q)))
      subst e
      have hpf := hpm.filter (gt_ib p (n + 1))
      have hfr := gt_fr_perm (gt_tg p n s) hpf hpm
      refine gx_merge hX hok hp hpt ⟨h1, h2⟩ (fun lf sl mk mv h => ?_) (fun LL' lv tt lf sl sz ks vs mk mv qk qv h hX1 hpm1 => ?_)
      · rw [hfr, hpm.length_eq] at h
        exact gy_merge hY hnd hp hpo ⟨h1, h2⟩ (fun _ => ⟨rfl, n + 1, p, LL, M, rfl, rfl, hp, hpt, hpo, hX, hY, hpm⟩) (fun M' nn li le va h3 _ _ => by omega)
      · rw [hfr, hpm.length_eq] at h
        refine gy_merge hY hnd hp hpo ⟨h1, h2⟩ (fun h3 => by omega) (fun M' nn li le va _ hY1 hq => ⟨by rw [hpf.length_eq], n + 1, p, LL', M', rfl, rfl, hp, hpt, hpo, hX1, hY1, hpm1.trans ((gt_puts_all _ hpf hpm ?_).trans hq.symm)⟩)
        exact gt_dis (gt_srt_nd hX.1.2.2.2.1) hok hp ⟨h1, h2⟩
theorem gz_blw {p : Nat → Nat} {d : Nat} {L M : List gt_E} {x y : Int32} (hpm : List.Perm L M) (a : gt_blw p d L x) (b : gt_blw p d M y) : y = x := by
  rcases a with ⟨a, ha⟩ | ⟨a, e, he, ha⟩
  · rcases b with ⟨b, hb⟩ | ⟨b, e, he, hb⟩
    · rw [a, b]
    · exact absurd hb (ha e (hpm.mem_iff.mpr he))
  · rcases b with ⟨b, hb⟩ | ⟨b, e, he, hb⟩
    · exact absurd ha (hb e (hpm.mem_iff.mp he))
    · rw [a, b]
theorem i_vc_data {k : Nat} {u : SX} {v : SY} (I : i_Rel k u v) (hk : k + 2 ≤ 1024) : wpX_data (fun r u' => wpY_data (fun r' => r' = r ∧ i_Rel (k + 2) u' v) v) u := by
  obtain ⟨dp, lv, tt, lf, sl, sb, sz, ks, vs, mk, mv, qk, qv⟩ := u
  obtain ⟨nn, dd, li, le, va, po⟩ := v
  obtain ⟨d, p, LL, M, rfl, rfl, hp, hpt, hpo, hX, hY, hpm⟩ := I
  have hok := gz_ok hY hpm
  have hYn := hY.2.1
  subst hYn
  refine gx_data hX hok hp hpt (fun lf sl x hx hne => ?_) (fun lf sl x w hx hw => ?_)
  · exact gy_data hY.1 hY.2.2 hp hpo (fun y hy _ => ⟨gz_blw hpm hx hy, d, p, LL, M, rfl, rfl, hp, hpt, hpo, hX, hY, hpm⟩) (fun y w _ hw => absurd rfl (hne _ (hpm.mem_iff.mpr hw)))
  · exact gy_data hY.1 hY.2.2 hp hpo (fun y _ h => absurd rfl (h _ (hpm.mem_iff.mp hw))) (fun y w hy _ => ⟨by rw [gz_blw hpm hx hy], d, p, LL, M, rfl, rfl, hp, hpt, hpo, hX, hY, hpm⟩)
theorem i_vc_value {k : Nat} {u : SX} {v : SY} (I : i_Rel k u v) (hk : k + 2 ≤ 1024) : wpX_value (fun r u' => wpY_value (fun r' => r' = r ∧ i_Rel (k + 2) u' v) v) u := by
  obtain ⟨dp, lv, tt, lf, sl, sb, sz, ks, vs, mk, mv, qk, qv⟩ := u
  obtain ⟨nn, dd, li, le, va, po⟩ := v
  obtain ⟨d, p, LL, M, rfl, rfl, hp, hpt, hpo, hX, hY, hpm⟩ := I
  have hok := gz_ok hY hpm
  have hnd := gz_nd hX hpm
  have hYn := hY.2.1
  subst hYn
  refine gx_value hX hok hp hpt (fun lf sl hne => ?_) (fun lf sl w hw => ?_)
  · exact gy_value hY.1 hY.2.2 hp hpo (fun w hw => absurd rfl (hne _ (hpm.mem_iff.mpr hw))) (fun _ => ⟨rfl, d, p, LL, M, rfl, rfl, hp, hpt, hpo, hX, hY, hpm⟩)
  · exact gy_value hY.1 hY.2.2 hp hpo (fun w' hw' => ⟨gt_nd_inj hnd hw' (hpm.mem_iff.mp hw), d, p, LL, M, rfl, rfl, hp, hpt, hpo, hX, hY, hpm⟩) (fun h => absurd rfl (h _ (hpm.mem_iff.mp hw)))
theorem gz_near {n : Nat} {fit : Nat → Prop} {w : Nat → Nat → Prop} {L M : List gt_E} {x y : Int32} (hpm : List.Perm L M) (wa : ∀ a b, w a b → w b a → a = b) (a : gt_near n fit w L x) (b : gt_near n fit w M y) : y = x := by
  rcases a with ⟨a, ha⟩ | ⟨e, he, fe, a, ha⟩
  · rcases b with ⟨b, hb⟩ | ⟨e, he, fe, b, hb⟩
    · rw [a, b]
    · exact absurd fe (ha e (hpm.mem_iff.mpr he))
  · rcases b with ⟨b, hb⟩ | ⟨c, hc, fc, b, hb⟩
    · exact absurd fe (hb e (hpm.mem_iff.mp he))
    · rw [a, b, wa _ _ (hb e (hpm.mem_iff.mp he) fe) (ha c (hpm.mem_iff.mpr hc) fc)]
theorem i_vc_next {k : Nat} {u : SX} {v : SY} (I : i_Rel k u v) (hk : k + 2 ≤ 1024) : wpX_next (fun r u' => wpY_next (fun r' => r' = r ∧ i_Rel (k + 2) u' v) v) u := by
  obtain ⟨dp, lv, tt, lf, sl, sb, sz, ks, vs, mk, mv, qk, qv⟩ := u
  obtain ⟨nn, dd, li, le, va, po⟩ := v
  obtain ⟨d, p, LL, M, rfl, rfl, hp, hpt, hpo, hX, hY, hpm⟩ := I
  have hok := gz_ok hY hpm
  have hd3 := hp.1
  have hYn := hY.2.1
  subst hYn
  rcases d with _ | n
  · exact br_t rfl (br_t rfl ⟨rfl, 0, p, LL, M, rfl, rfl, hp, hpt, hpo, hX, hY, hpm⟩)
  · have hne : ¬ nI (n + 1) = 0 := nI_ne0 (by omega) (by omega)
    have hpn := hp.2 n (by omega)
    refine gx_next hX hok hp hpt (fun lf sl r hr => br_f hne ?_)
    rw [nI_pred, nI_clamp (show n < 2 ^ 31 by omega), hpo n (by omega)]
    exact ⟨vp_in_nI (by omega) (by omega), gy_nearest (w := fun a b => a ≤ b) hY.1 hY.2.2 (gt_pp_le hp (by omega)) (fun i hi => hpo i (by omega)) (by omega) (by omega) (fun a b ha hb => gt_way1 ha hb) (fun a b c => Nat.le_trans) (fun a b h => Nat.le_of_not_le h) (fun r' hr' => ⟨gz_near hpm (fun a b => Nat.le_antisymm) hr hr', n + 1, p, LL, M, rfl, rfl, hp, hpt, hpo, hX, hY, hpm⟩)⟩
theorem i_vc_previous {k : Nat} {u : SX} {v : SY} (I : i_Rel k u v) (hk : k + 2 ≤ 1024) : wpX_previous (fun r u' => wpY_previous (fun r' => r' = r ∧ i_Rel (k + 2) u' v) v) u := by
  obtain ⟨dp, lv, tt, lf, sl, sb, sz, ks, vs, mk, mv, qk, qv⟩ := u
  obtain ⟨nn, dd, li, le, va, po⟩ := v
  obtain ⟨d, p, LL, M, rfl, rfl, hp, hpt, hpo, hX, hY, hpm⟩ := I
  have hok := gz_ok hY hpm
  have hd3 := hp.1
  have hYn := hY.2.1
  subst hYn
  rcases d with _ | n
  · exact br_t rfl (br_t rfl ⟨rfl, 0, p, LL, M, rfl, rfl, hp, hpt, hpo, hX, hY, hpm⟩)
  · have hne : ¬ nI (n + 1) = 0 := nI_ne0 (by omega) (by omega)
    have hpn := hp.2 n (by omega)
    refine gx_previous hX hok hp hpt (fun lf sl r hr => br_f hne ?_)
    rw [nI_pred, nI_clamp (show n < 2 ^ 31 by omega), hpo n (by omega)]
    exact ⟨vp_in_nI (by omega) (by omega), gy_nearest (w := fun a b => b ≤ a) hY.1 hY.2.2 (gt_pp_le hp (by omega)) (fun i hi => hpo i (by omega)) (by omega) (by omega) (fun a b ha hb => gt_way2 ha hb) (fun a b c h1 h2 => Nat.le_trans h2 h1) (fun a b h => Nat.le_of_not_le h) (fun r' hr' => ⟨gz_near hpm (fun a b h1 h2 => Nat.le_antisymm h2 h1) hr hr', n + 1, p, LL, M, rfl, rfl, hp, hpt, hpo, hX, hY, hpm⟩)⟩
theorem i_vc_first {k : Nat} {u : SX} {v : SY} (I : i_Rel k u v) (hk : k + 2 ≤ 1024) : wpX_first (fun r u' => wpY_first (fun r' => r' = r ∧ i_Rel (k + 2) u' v) v) u := by
  obtain ⟨dp, lv, tt, lf, sl, sb, sz, ks, vs, mk, mv, qk, qv⟩ := u
  obtain ⟨nn, dd, li, le, va, po⟩ := v
  obtain ⟨d, p, LL, M, rfl, rfl, hp, hpt, hpo, hX, hY, hpm⟩ := I
  have hok := gz_ok hY hpm
  have hd3 := hp.1
  have hYn := hY.2.1
  subst hYn
  rcases Nat.lt_or_ge d 3 with z | z
  · refine gx_first hX hok hp hpt z (fun lf sl r hr => br_f (fun y => ?_) ?_)
    · have := (nI_eq (a := d) (b := 3) (by omega) (by omega)).mp y
      omega
    · rw [← gt_sI0]
      exact gy_nearest (w := fun a b => a ≤ b) hY.1 hY.2.2 hp hpo z (by omega) (fun a b ha hb => gt_way1 ha hb) (fun a b c => Nat.le_trans) (fun a b h => Nat.le_of_not_le h) (fun r' hr' => ⟨gz_near hpm (fun a b => Nat.le_antisymm) hr hr', d, p, LL, M, rfl, rfl, hp, hpt, hpo, hX, hY, hpm⟩)
  · have e3 : d = 3 := by omega
    subst e3
    exact br_f (by decide) (br_t rfl ⟨rfl, 3, p, LL, M, rfl, rfl, hp, hpt, hpo, hX, hY, hpm⟩)
theorem i_vc_query {k : Nat} {u : SX} {v : SY} (I : i_Rel k u v) (hk : k + 2 ≤ 1024) : wpX_query (fun r u' => wpY_query (fun r' => r' = r ∧ i_Rel (k + 2) u' v) v) u := by
  obtain ⟨dp, lv, tt, lf, sl, sb, sz, ks, vs, mk, mv, qk, qv⟩ := u
  obtain ⟨nn, dd, li, le, va, po⟩ := v
  obtain ⟨d, p, LL, M, rfl, rfl, hp, hpt, hpo, hX, hY, hpm⟩ := I
  have hok := gz_ok hY hpm
  have hnd := gz_nd hX hpm
  have hYn := hY.2.1
  subst hYn
  refine gx_query hX hok hp hpt (fun lf sl h => ?_) (fun lf sl c hc hlt hmin => ?_)
  · refine gy_query hY.1 hY.2.2 hp hpo (fun _ => ⟨rfl, d, p, LL, M, rfl, rfl, hp, hpt, hpo, hX, hY, hpm⟩) (fun c hc hlt _ => ?_)
    have := h c (hpm.mem_iff.mpr hc)
    omega
  · refine gy_query hY.1 hY.2.2 hp hpo (fun h => ?_) (fun c' hc' hlt' hmin' => ⟨?_, d, p, LL, M, rfl, rfl, hp, hpt, hpo, hX, hY, hpm⟩)
    · have := h c (hpm.mem_iff.mp hc)
      omega
    · have h1 := hmin c' (hpm.mem_iff.mpr hc') hlt'
      have h2 := hmin' c (hpm.mem_iff.mp hc) hlt
      have e : c'.1 = c.1 := by omega
      obtain ⟨c1, c2⟩ := c
      obtain ⟨c3, c4⟩ := c'
      dsimp only at e
      subst e
      exact gt_nd_inj hnd hc' (hpm.mem_iff.mp hc)
theorem i_vc_before {k : Nat} {u : SX} {v : SY} (I : i_Rel k u v) (hk : k + 2 ≤ 1024) : wpX_before (fun r u' => wpY_before (fun r' => r' = r ∧ i_Rel (k + 2) u' v) v) u := by
  obtain ⟨dp, lv, tt, lf, sl, sb, sz, ks, vs, mk, mv, qk, qv⟩ := u
  obtain ⟨nn, dd, li, le, va, po⟩ := v
  obtain ⟨d, p, LL, M, rfl, rfl, hp, hpt, hpo, hX, hY, hpm⟩ := I
  have hYn := hY.2.1
  subst hYn
  refine gx_before hX hp hpt (fun lf sl => gy_before hY.1 hY.2.2 hp hpo ⟨by rw [hpm.countP_eq], d, p, LL, M, rfl, rfl, hp, hpt, hpo, hX, hY, hpm⟩)
theorem i_vc_count {k : Nat} {u : SX} {v : SY} (I : i_Rel k u v) (hk : k + 2 ≤ 1024) : wpX_count (fun r => wpY_count (fun r' => r' = r ∧ i_Rel (k + 2) u v) v) u := by
  obtain ⟨dp, lv, tt, lf, sl, sb, sz, ks, vs, mk, mv, qk, qv⟩ := u
  obtain ⟨nn, dd, li, le, va, po⟩ := v
  obtain ⟨d, p, LL, M, rfl, rfl, hp, hpt, hpo, hX, hY, hpm⟩ := I
  exact ⟨by rw [hX.2.2.2.1, hY.2.1, hpm.length_eq], d, p, LL, M, rfl, rfl, hp, hpt, hpo, hX, hY, hpm⟩
end
